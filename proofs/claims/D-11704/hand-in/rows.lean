section
/-- an integer as an int -/
def hz_I (z : Int) : Int32 := Int32.ofInt z
/-- small enough -/
abbrev hz_B (z : Int) : Prop := -2000000000 ≤ z ∧ z ≤ 2000000000
theorem hz_n (n : Nat) : nI n = hz_I (n : Int) := by
  unfold nI hz_I
  rw [Int32.ofInt_eq_ofNat]
theorem hz_add (a b : Int) : hz_I a + hz_I b = hz_I (a + b) := (Int32.ofInt_add a b).symm
theorem hz_sub (a b : Int) : hz_I a - hz_I b = hz_I (a - b) := (Int32.ofInt_sub a b).symm
theorem hz_mul (a b : Int) : hz_I a * hz_I b = hz_I (a * b) := (Int32.ofInt_mul a b).symm
theorem hz_neg (a : Int) : -hz_I a = hz_I (-a) := (Int32.ofInt_neg a).symm
theorem hz_t {z : Int} (h : hz_B z) : (hz_I z).toInt = z := by
  obtain ⟨h1, h2⟩ := h
  exact Int32.toInt_ofInt_of_le (by omega) (by omega)
theorem hz_lt {y z : Int} (hy : hz_B y) (hz : hz_B z) : hz_I y < hz_I z ↔ y < z := by
  rw [Int32.lt_iff_toInt_lt, hz_t hy, hz_t hz]
theorem hz_le {y z : Int} (hy : hz_B y) (hz : hz_B z) : hz_I y ≤ hz_I z ↔ y ≤ z := by
  rw [Int32.le_iff_toInt_le, hz_t hy, hz_t hz]
theorem hz_eq {y z : Int} (hy : hz_B y) (hz : hz_B z) : hz_I y = hz_I z ↔ y = z := by
  rw [← Int32.toInt_inj, hz_t hy, hz_t hz]
theorem hz_0 : (0 : Int32) = hz_I 0 := by decide
theorem hz_B0 : hz_B 0 := by decide
theorem zb_le {x y : Int} {A B : Prop} (hx : hz_B x) (hy : hz_B y) (f : x ≤ y → A) (g : y < x → B) : (hz_I x ≤ hz_I y → A) ∧ (¬ hz_I x ≤ hz_I y → B) := by
  rw [hz_le hx hy]
  exact ⟨f, fun k => g (by omega)⟩
theorem zb_lt {x y : Int} {A B : Prop} (hx : hz_B x) (hy : hz_B y) (f : x < y → A) (g : y ≤ x → B) : (hz_I x < hz_I y → A) ∧ (¬ hz_I x < hz_I y → B) := by
  rw [hz_lt hx hy]
  exact ⟨f, fun k => g (by omega)⟩
theorem zb_eq {x y : Int} {A B : Prop} (hx : hz_B x) (hy : hz_B y) (f : x = y → A) (g : x ≠ y → B) : (hz_I x = hz_I y → A) ∧ (¬ hz_I x = hz_I y → B) := by
  rw [hz_eq hx hy]
  exact ⟨f, g⟩
theorem zb_pos {z : Int} {A B : Prop} (h : hz_B z) (f : 0 < z → A) (g : z ≤ 0 → B) : ((0 : Int32) < hz_I z → A) ∧ (¬ (0 : Int32) < hz_I z → B) := by
  rw [hz_0]
  exact zb_lt hz_B0 h f g
theorem zb_neg {z : Int} {A B : Prop} (h : hz_B z) (f : z < 0 → A) (g : 0 ≤ z → B) : (hz_I z < (0 : Int32) → A) ∧ (¬ hz_I z < (0 : Int32) → B) := by
  rw [hz_0]
  exact zb_lt h hz_B0 f g
theorem zb_nn {z : Int} {A B : Prop} (h : hz_B z) (f : 0 ≤ z → A) (g : z < 0 → B) : ((0 : Int32) ≤ hz_I z → A) ∧ (¬ (0 : Int32) ≤ hz_I z → B) := by
  rw [hz_0]
  exact zb_le hz_B0 h f g
theorem zb_np {z : Int} {A B : Prop} (h : hz_B z) (f : z ≤ 0 → A) (g : 0 < z → B) : (hz_I z ≤ (0 : Int32) → A) ∧ (¬ hz_I z ≤ (0 : Int32) → B) := by
  rw [hz_0]
  exact zb_le h hz_B0 f g
theorem zb_z {z : Int} {A B : Prop} (h : hz_B z) (f : z = 0 → A) (g : z ≠ 0 → B) : (hz_I z = (0 : Int32) → A) ∧ (¬ hz_I z = (0 : Int32) → B) := by
  rw [hz_0]
  exact zb_eq h hz_B0 f g
theorem hz_b8 : ∀ i, i < 128 → (nI i).toInt8.toInt32 = nI i := by decide +kernel
theorem hz_v8 (i : Nat) (h : i < 128) : vp_nar .byte (nI i) = nI i := by
  rw [vp_nar_byte]
  exact hz_b8 i h
theorem hz_m63 {a b : Int} (h1 : -63 ≤ a) (h2 : a ≤ 63) (h3 : -63 ≤ b) (h4 : b ≤ 63) : -3969 ≤ a * b ∧ a * b ≤ 3969 := by
  have e1 : 0 ≤ (63 - a) * (63 + b) := Int.mul_nonneg (by omega) (by omega)
  have e2 : 0 ≤ (63 + a) * (63 - b) := Int.mul_nonneg (by omega) (by omega)
  have e3 : 0 ≤ (63 - a) * (63 - b) := Int.mul_nonneg (by omega) (by omega)
  have e4 : 0 ≤ (63 + a) * (63 + b) := Int.mul_nonneg (by omega) (by omega)
  have f1 : (63 - a) * (63 + b) = 3969 + 63 * b - 63 * a - a * b := by grind
  have f2 : (63 + a) * (63 - b) = 3969 - 63 * b + 63 * a - a * b := by grind
  have f3 : (63 - a) * (63 - b) = 3969 - 63 * b - 63 * a + a * b := by grind
  have f4 : (63 + a) * (63 + b) = 3969 + 63 * b + 63 * a + a * b := by grind
  constructor <;> omega
/-- the turn from a over b to c -/
def hz_cr (X Y : Nat → Int) (a b c : Nat) : Int := (X b - X a) * (Y c - Y a) - (Y b - Y a) * (X c - X a)
/-- the square of the way from a to b -/
def hz_sv (X Y : Nat → Int) (a b : Nat) : Int := (X a - X b) * (X a - X b) + (Y a - Y b) * (Y a - Y b)
/-- the arrays x and y hold the coordinates of n places -/
def hz_xy (n : Nat) (X Y : Nat → Int) (a2 a3 : Nat → Int32) : Prop := ∀ k, k < n → a2 k = hz_I (X k) ∧ a3 k = hz_I (Y k) ∧ 0 ≤ X k ∧ X k ≤ 63 ∧ 0 ≤ Y k ∧ Y k ≤ 63
theorem hz_crB {n a b c : Nat} {X Y : Nat → Int} {a2 a3 : Nat → Int32} (hx : hz_xy n X Y a2 a3) (ha : a < n) (hb : b < n) (hc : c < n) : -7938 ≤ hz_cr X Y a b c ∧ hz_cr X Y a b c ≤ 7938 := by
  obtain ⟨_, _, a3, a4, a5, a6⟩ := hx a ha
  obtain ⟨_, _, b3, b4, b5, b6⟩ := hx b hb
  obtain ⟨_, _, c3, c4, c5, c6⟩ := hx c hc
  have p := hz_m63 (a := X b - X a) (b := Y c - Y a) (by omega) (by omega) (by omega) (by omega)
  have q := hz_m63 (a := Y b - Y a) (b := X c - X a) (by omega) (by omega) (by omega) (by omega)
  unfold hz_cr
  omega
theorem hz_svB {n a b : Nat} {X Y : Nat → Int} {a2 a3 : Nat → Int32} (hx : hz_xy n X Y a2 a3) (ha : a < n) (hb : b < n) : 0 ≤ hz_sv X Y a b ∧ hz_sv X Y a b ≤ 7938 := by
  obtain ⟨_, _, a3, a4, a5, a6⟩ := hx a ha
  obtain ⟨_, _, b3, b4, b5, b6⟩ := hx b hb
  have p := hz_m63 (a := X a - X b) (b := X a - X b) (by omega) (by omega) (by omega) (by omega)
  have q := hz_m63 (a := Y a - Y b) (b := Y a - Y b) (by omega) (by omega) (by omega) (by omega)
  have r1 : 0 ≤ (X a - X b) * (X a - X b) := by
    rcases Int.le_total 0 (X a - X b) with h | h
    · exact Int.mul_nonneg h h
    · exact Int.mul_nonneg_of_nonpos_of_nonpos h h
  have r2 : 0 ≤ (Y a - Y b) * (Y a - Y b) := by
    rcases Int.le_total 0 (Y a - Y b) with h | h
    · exact Int.mul_nonneg h h
    · exact Int.mul_nonneg_of_nonpos_of_nonpos h h
  unfold hz_sv
  omega
theorem hz_turn {post : Int32 → Prop} {pr ct sz ks wt : Int32} {a1 a2 a3 a4 a5 a6 a7 a8 a9 a10 a11 a12 a13 : Nat → Int32} {X Y : Nat → Int} {n a b c : Nat} {p0 p1 p2 : Int32} (hn : n ≤ 24) (hx : hz_xy n X Y a2 a3) (ha : a < n) (hb : b < n) (hc : c < n) (e0 : p0 = nI a) (e1 : p1 = nI b) (e2 : p2 = nI c) (H : hz_B (hz_cr X Y a b c) → post (hz_I (hz_cr X Y a b c))) : wpX_turn post (pr, ct, sz, ks, wt, a1, a2, a3, a4, a5, a6, a7, a8, a9, a10, a11, a12, a13) p0 p1 p2 := by
  subst e0 e1 e2
  unfold wpX_turn
  refine ⟨pk_in b 24 (by omega), pk_in a 24 (by omega), pk_in c 24 (by omega), pk_in a 24 (by omega), nm_e ⟨pk_in b 24 (by omega), pk_in a 24 (by omega), pk_in c 24 (by omega), pk_in a 24 (by omega), ?_⟩⟩
  rw [nI_clamp (show a < 2 ^ 31 by omega), nI_clamp (show b < 2 ^ 31 by omega), nI_clamp (show c < 2 ^ 31 by omega), (hx a ha).1, (hx a ha).2.1, (hx b hb).1, (hx b hb).2.1, (hx c hc).1, (hx c hc).2.1]
  simp only [hz_sub, hz_mul]
  have := hz_crB hx ha hb hc
  exact H ⟨by omega, by omega⟩
theorem hz_square {post : Int32 → Prop} {pr ct sz ks wt : Int32} {a1 a2 a3 a4 a5 a6 a7 a8 a9 a10 a11 a12 a13 : Nat → Int32} {X Y : Nat → Int} {n a b : Nat} {p0 p1 : Int32} (hn : n ≤ 24) (hx : hz_xy n X Y a2 a3) (ha : a < n) (hb : b < n) (e0 : p0 = nI a) (e1 : p1 = nI b) (H : hz_B (hz_sv X Y a b) → post (hz_I (hz_sv X Y a b))) : wpX_square post (pr, ct, sz, ks, wt, a1, a2, a3, a4, a5, a6, a7, a8, a9, a10, a11, a12, a13) p0 p1 := by
  subst e0 e1
  unfold wpX_square
  refine ⟨pk_in a 24 (by omega), pk_in b 24 (by omega), nm_e ⟨pk_in a 24 (by omega), pk_in b 24 (by omega), nm_e ?_⟩⟩
  rw [nI_clamp (show a < 2 ^ 31 by omega), nI_clamp (show b < 2 ^ 31 by omega), (hx a ha).1, (hx a ha).2.1, (hx b hb).1, (hx b hb).2.1]
  simp only [hz_sub, hz_mul, hz_add]
  have := hz_svB hx ha hb
  exact H ⟨by omega, by omega⟩
/-- a function, one value changed -/
def hz_up (f : Nat → Nat) (k v : Nat) : Nat → Nat := fun j => if j = k then v else f j
/-- the first s places of the array hold h -/
def hz_mh (s : Nat) (h : Nat → Nat) (a : Nat → Int32) : Prop := ∀ j, j < s → a j = nI (h j) ∧ h j < 128
theorem hz_mh0 (h : Nat → Nat) (a : Nat → Int32) : hz_mh 0 h a := fun j hj => absurd hj (by omega)
theorem hz_mhS {s i : Nat} {h : Nat → Nat} {a : Nat → Int32} {x : Int32} (H : hz_mh s h a) (hx : x = nI i) (hi : i < 128) : hz_mh (s + 1) (hz_up h s i) (upd a s x) := by
  intro j hj
  unfold hz_up
  by_cases e : j = s
  · rw [e, pk_us, if_pos rfl, hx]
    exact ⟨rfl, hi⟩
  · rw [pk_un e, if_neg e]
    exact H j (by omega)
theorem hz_mhU {s k i : Nat} {h : Nat → Nat} {a : Nat → Int32} {x : Int32} (H : hz_mh s h a) (hx : x = nI i) (hi : i < 128) : hz_mh s (hz_up h k i) (upd a k x) := by
  intro j hj
  unfold hz_up
  by_cases e : j = k
  · rw [e, pk_us, if_pos rfl, hx]
    exact ⟨rfl, hi⟩
  · rw [pk_un e, if_neg e]
    exact H j hj
/-- go on only if c -/
def hz_g {α : Type} (c : Bool) (x : Option α) : Option α := match c with
  | true => x
  | false => none
theorem hz_gE {α : Type} {c : Bool} {x : Option α} {r : α} (h : hz_g c x = some r) : c = true ∧ x = some r := by
  cases c
  · exact absurd h (by simp [hz_g])
  · exact ⟨rfl, h⟩
/-- by a sign: 0, 1, 2 -/
def hz_3 {α : Type} (t : Nat) (x y z : Option α) : Option α := if t = 0 then x else if t = 1 then y else if t = 2 then z else none
theorem hz_3E {α : Type} {t : Nat} {x y z : Option α} {r : α} (h : hz_3 t x y z = some r) : (t = 0 ∧ x = some r) ∨ (t = 1 ∧ y = some r) ∨ (t = 2 ∧ z = some r) := by
  unfold hz_3 at h
  by_cases h0 : t = 0
  · rw [if_pos h0] at h
    exact Or.inl ⟨h0, h⟩
  · rw [if_neg h0] at h
    by_cases h1 : t = 1
    · rw [if_pos h1] at h
      exact Or.inr (Or.inl ⟨h1, h⟩)
    · rw [if_neg h1] at h
      by_cases h2 : t = 2
      · rw [if_pos h2] at h
        exact Or.inr (Or.inr ⟨h2, h⟩)
      · rw [if_neg h2] at h
        exact absurd h (by simp)
theorem hz_iE {α : Type} {c : Bool} {x y : α} {r : α} (h : (bif c then x else y) = r) : (c = true ∧ x = r) ∨ (c = false ∧ y = r) := by
  cases c
  · exact Or.inr ⟨rfl, h⟩
  · exact Or.inl ⟨rfl, h⟩
theorem hz_bE {α β : Type} {x : Option α} {f : α → Option β} {r : β} (h : x.bind f = some r) : ∃ q, x = some q ∧ f q = some r := by
  cases x with
  | none => exact absurd h (by simp)
  | some q => exact ⟨q, rfl, h⟩
/-- a sign oracle that is right where it answers -/
def hz_sg (n : Nat) (X Y : Nat → Int) (sg : Nat → Nat → Nat → Nat) : Prop := ∀ a b c, (sg a b c = 0 → a < n ∧ b < n ∧ c < n ∧ hz_cr X Y a b c < 0) ∧ (sg a b c = 1 → a < n ∧ b < n ∧ c < n ∧ hz_cr X Y a b c = 0) ∧ (sg a b c = 2 → a < n ∧ b < n ∧ c < n ∧ 0 < hz_cr X Y a b c)
/-- an oracle for squares: 1 when that of a, b is greater than that of c, d; 0 when it isn't -/
def hz_sq (n : Nat) (X Y : Nat → Int) (sq : Nat → Nat → Nat → Nat → Nat) : Prop := ∀ a b c d, (sq a b c d = 0 → a < n ∧ b < n ∧ c < n ∧ d < n ∧ hz_sv X Y a b ≤ hz_sv X Y c d) ∧ (sq a b c d = 1 → a < n ∧ b < n ∧ c < n ∧ d < n ∧ hz_sv X Y c d < hz_sv X Y a b)
/-- by a yes or no: 0, 1 -/
def hz_2 {α : Type} (t : Nat) (x y : Option α) : Option α := if t = 0 then x else if t = 1 then y else none
theorem hz_2E {α : Type} {t : Nat} {x y : Option α} {r : α} (h : hz_2 t x y = some r) : (t = 0 ∧ x = some r) ∨ (t = 1 ∧ y = some r) := by
  unfold hz_2 at h
  by_cases h0 : t = 0
  · rw [if_pos h0] at h
    exact Or.inl ⟨h0, h⟩
  · rw [if_neg h0] at h
    by_cases h1 : t = 1
    · rw [if_pos h1] at h
      exact Or.inr ⟨h1, h⟩
    · rw [if_neg h1] at h
      exact absurd h (by simp)
end
section
/-- a corner is added -/
def hz_end (i : Nat) (h : Nat → Nat) (s : Nat) : Option ((Nat → Nat) × Nat) := hz_g (decide (s < 48 ∧ i < 128)) (some (hz_up h s i, s + 1))
theorem hz_corner {post : St2 → Prop} {pr ct ks wt : Int32} {a1 a2 a3 a4 a5 a6 a7 a8 a9 a10 a11 a12 a13 : Nat → Int32} {h : Nat → Nat} {s i : Nat} {p0 : Int32} {r : (Nat → Nat) × Nat} (hp : hz_end i h s = some r) (hm : hz_mh s h a4) (e0 : p0 = nI i) (H : ∀ a4', hz_mh r.2 r.1 a4' → post (pr, ct, nI r.2, ks, wt, a1, a2, a3, a4', a5, a6, a7, a8, a9, a10, a11, a12, a13)) : wpX_addCorner post (pr, ct, nI s, ks, wt, a1, a2, a3, a4, a5, a6, a7, a8, a9, a10, a11, a12, a13) p0 := by
  obtain ⟨hc, hr⟩ := hz_gE hp
  have hc := of_decide_eq_true hc
  subst e0
  have hr := Option.some.inj hr
  subst hr
  unfold wpX_addCorner
  refine ⟨pk_in s 48 hc.1, nm_e (nm_r (nI_1 s) (H _ ?_))⟩
  rw [nI_clamp (by omega), hz_b8 i hc.2]
  exact hz_mhS hm rfl hc.2
/-- corners that are no left turn any more are taken back, then i is added -/
def hz_pop (sg : Nat → Nat → Nat → Nat) (i least : Nat) (h : Nat → Nat) : Nat → Nat → Option ((Nat → Nat) × Nat)
  | 0, _ => none
  | N + 1, s => hz_g (decide (s ≤ 48 ∧ 1 ≤ least ∧ least ≤ 48)) (if s ≤ least then hz_end i h s else hz_3 (sg (h (s - 2)) (h (s - 1)) i) (hz_pop sg i least h N (s - 1)) (hz_pop sg i least h N (s - 1)) (hz_end i h s))
theorem hz_pop_w {post : St2 → Prop} {pr ct ks wt : Int32} {a1 a2 a3 a4 a5 a6 a7 a8 a9 a10 a11 a12 a13 : Nat → Int32} {X Y : Nat → Int} {n i least : Nat} {sg : Nat → Nat → Nat → Nat} {h : Nat → Nat} {r : (Nat → Nat) × Nat} (hn : n ≤ 24) (hx : hz_xy n X Y a2 a3) (hs : hz_sg n X Y sg) (H : ∀ a4', hz_mh r.2 r.1 a4' → post (pr, ct, nI r.2, ks, wt, a1, a2, a3, a4', a5, a6, a7, a8, a9, a10, a11, a12, a13)) : ∀ N s, hz_pop sg i least h N s = some r → hz_mh s h a4 → wX_pushTurning_0 post (nI i) (nI least) pr ct ks wt a1 a2 a3 a4 a5 a6 a7 a8 a9 a10 a11 a12 a13 N (nI s) := by
  intro N
  induction N with
  | zero => intro s hp _; exact absurd hp (by simp [hz_pop])
  | succ N ih =>
    intro s hp hm
    rw [hz_pop] at hp
    obtain ⟨hc, hp⟩ := hz_gE hp
    have hc := of_decide_eq_true hc
    refine pk_le s least (fun z => ?_) (fun z => ⟨pk_in (s - 2) 48 (by omega) (pk_sub (show 2 ≤ s by omega)), pk_in (s - 1) 48 (by omega) (pk_sub (show 1 ≤ s by omega)), ?_⟩)
    · rw [if_pos z] at hp
      exact hz_corner hp hm rfl H
    · rw [if_neg (by omega)] at hp
      have e1 : a4 (nI s - 2).toNatClampNeg = nI (h (s - 2)) := by
        rw [show nI s - 2 = nI (s - 2) from pk_sub (show 2 ≤ s by omega), nI_clamp (by omega)]
        exact (hm _ (by omega)).1
      have e2 : a4 (nI s - 1).toNatClampNeg = nI (h (s - 1)) := by
        rw [show nI s - 1 = nI (s - 1) from pk_sub (show 1 ≤ s by omega), nI_clamp (by omega)]
        exact (hm _ (by omega)).1
      have hq : hz_mh (s - 1) h a4 := fun j hj => hm j (by omega)
      rcases hz_3E hp with ⟨ht, hp⟩ | ⟨ht, hp⟩ | ⟨ht, hp⟩
      · obtain ⟨h1, h2, h3, h4⟩ := (hs _ _ _).1 ht
        exact hz_turn hn hx h1 h2 h3 e1 e2 rfl (fun hb => zb_pos hb (fun k => absurd k (by omega)) (fun k => nm_r (pk_sub (show 1 ≤ s by omega)) (ih _ hp hq)))
      · obtain ⟨h1, h2, h3, h4⟩ := (hs _ _ _).2.1 ht
        exact hz_turn hn hx h1 h2 h3 e1 e2 rfl (fun hb => zb_pos hb (fun k => absurd k (by omega)) (fun k => nm_r (pk_sub (show 1 ≤ s by omega)) (ih _ hp hq)))
      · obtain ⟨h1, h2, h3, h4⟩ := (hs _ _ _).2.2 ht
        exact hz_turn hn hx h1 h2 h3 e1 e2 rfl (fun hb => zb_pos hb (fun k => hz_corner hp hm rfl H) (fun k => absurd k (by omega)))
theorem hz_push {post : St2 → Prop} {pr ct ks wt : Int32} {a1 a2 a3 a4 a5 a6 a7 a8 a9 a10 a11 a12 a13 : Nat → Int32} {X Y : Nat → Int} {n i least s : Nat} {p0 p1 : Int32} {sg : Nat → Nat → Nat → Nat} {h : Nat → Nat} {r : (Nat → Nat) × Nat} (hn : n ≤ 24) (hx : hz_xy n X Y a2 a3) (hs : hz_sg n X Y sg) (hp : hz_pop sg i least h 49 s = some r) (hm : hz_mh s h a4) (e0 : p0 = nI i) (e1 : p1 = nI least) (H : ∀ a4', hz_mh r.2 r.1 a4' → post (pr, ct, nI r.2, ks, wt, a1, a2, a3, a4', a5, a6, a7, a8, a9, a10, a11, a12, a13)) : wpX_pushTurning post (pr, ct, nI s, ks, wt, a1, a2, a3, a4, a5, a6, a7, a8, a9, a10, a11, a12, a13) p0 p1 := by
  subst e0 e1
  exact ⟨49, hz_pop_w hn hx hs H 49 s hp hm⟩
/-- engine 2, from left to right -/
def hz_s2 (sg : Nat → Nat → Nat → Nat) (n : Nat) : Nat → Nat → (Nat → Nat) → Nat → Option ((Nat → Nat) × Nat)
  | 0, _, _, _ => none
  | N + 1, i, h, s => if n ≤ i then some (h, s) else (hz_pop sg i 1 h 49 s).bind (fun q => hz_s2 sg n N (i + 1) q.1 q.2)
/-- engine 2, and back: j = i + 1 -/
def hz_s3 (sg : Nat → Nat → Nat → Nat) (low : Nat) : Nat → Nat → (Nat → Nat) → Nat → Option ((Nat → Nat) × Nat)
  | 0, _, _, _ => none
  | N + 1, 0, h, s => hz_g (decide (1 ≤ s ∧ s ≤ 48)) (some (h, s - 1))
  | N + 1, j + 1, h, s => (hz_pop sg j low h 49 s).bind (fun q => hz_s3 sg low N j q.1 q.2)
def hz_twice (sg : Nat → Nat → Nat → Nat) (n : Nat) : Option ((Nat → Nat) × Nat) := (hz_s2 sg n 49 0 (fun _ => 0) 0).bind (fun q => hz_s3 sg q.2 49 (n - 1) q.1 q.2)
theorem hz_s3_w {post : St2 → Prop} {pr ct ks wt : Int32} {a1 a2 a3 a5 a6 a7 a8 a9 a10 a11 a12 a13 : Nat → Int32} {X Y : Nat → Int} {n low : Nat} {sg : Nat → Nat → Nat → Nat} {r : (Nat → Nat) × Nat} (hn : n ≤ 24) (hx : hz_xy n X Y a2 a3) (hs : hz_sg n X Y sg) (H : ∀ a4', hz_mh r.2 r.1 a4' → post (pr, ct, nI r.2, ks, wt, a1, a2, a3, a4', a5, a6, a7, a8, a9, a10, a11, a12, a13)) : ∀ N j h s a4, j ≤ 24 → hz_s3 sg low N j h s = some r → hz_mh s h a4 → wX_scanTwice_34 post (nI low) N (nI j + (-1)) pr ct (nI s) ks wt a1 a2 a3 a4 a5 a6 a7 a8 a9 a10 a11 a12 a13 := by
  intro N
  induction N with
  | zero => intro j h s a4 _ hp _; exact absurd hp (by simp [hz_s3])
  | succ N ih =>
    intro j h s a4 hj hp hm
    cases j with
    | zero =>
      rw [hz_s3] at hp
      obtain ⟨hc, hp⟩ := hz_gE hp
      have hc := of_decide_eq_true hc
      have hr := Option.some.inj hp
      subst hr
      exact br_t (by decide) (nm_r (pk_sub (show 1 ≤ s by omega)) (H a4 (fun j hj => hm j (by have : j < s - 1 := hj; omega))))
    | succ j =>
      rw [hz_s3] at hp
      obtain ⟨q, hq, hp⟩ := hz_bE hp
      rw [pk_m1]
      exact br_f (nI_pos (by omega)) (hz_push hn hx hs hq hm rfl rfl (fun a4' hm' => nm_e (ih _ _ _ _ (by omega) hp hm')))
theorem hz_s2_w {post : St2 → Prop} {pr ks wt : Int32} {a1 a2 a3 a5 a6 a7 a8 a9 a10 a11 a12 a13 : Nat → Int32} {X Y : Nat → Int} {n : Nat} {sg : Nat → Nat → Nat → Nat} {r : (Nat → Nat) × Nat} (hn : n ≤ 24) (h2 : 2 ≤ n) (hx : hz_xy n X Y a2 a3) (hs : hz_sg n X Y sg) (H : ∀ a4', hz_mh r.2 r.1 a4' → post (pr, nI n, nI r.2, ks, wt, a1, a2, a3, a4', a5, a6, a7, a8, a9, a10, a11, a12, a13)) : ∀ N i h s a4, i ≤ n → ((hz_s2 sg n N i h s).bind (fun q => hz_s3 sg q.2 49 (n - 1) q.1 q.2)) = some r → hz_mh s h a4 → wX_scanTwice_2 post N (nI i) pr (nI n) (nI s) ks wt a1 a2 a3 a4 a5 a6 a7 a8 a9 a10 a11 a12 a13 := by
  intro N
  induction N with
  | zero => intro i h s a4 _ hp _; exact absurd hp (by simp [hz_s2])
  | succ N ih =>
    intro i h s a4 hi hp hm
    refine pk_le n i (fun z => ?_) (fun z => ?_)
    · rw [hz_s2, if_pos z] at hp
      refine nm_r (show nI n - 2 = nI (n - 1) + (-1) from ?_) ⟨49, hz_s3_w hn hx hs H 49 (n - 1) h s a4 (by omega) hp hm⟩
      rw [show nI n - 2 = nI (n - 2) from pk_sub h2, show n - 1 = (n - 2) + 1 by omega, pk_m1]
    · rw [hz_s2, if_neg (by omega)] at hp
      obtain ⟨q', hq', hp'⟩ := hz_bE hp
      obtain ⟨q, hq, hq2⟩ := hz_bE hq'
      refine hz_push hn hx hs hq hm rfl rfl (fun a4' hm' => nm_r (nI_1 i) (ih _ _ _ _ (by omega) ?_ hm'))
      rw [hq2]
      exact hp'
theorem hz_twice_w {post : St2 → Prop} {pr ks wt : Int32} {a1 a2 a3 a4 a5 a6 a7 a8 a9 a10 a11 a12 a13 : Nat → Int32} {X Y : Nat → Int} {n : Nat} {sg : Nat → Nat → Nat → Nat} {r : (Nat → Nat) × Nat} (hn : n ≤ 24) (h2 : 2 ≤ n) (hx : hz_xy n X Y a2 a3) (hs : hz_sg n X Y sg) (hp : hz_twice sg n = some r) (H : ∀ a4', hz_mh r.2 r.1 a4' → post (pr, nI n, nI r.2, ks, wt, a1, a2, a3, a4', a5, a6, a7, a8, a9, a10, a11, a12, a13)) : wpX_scanTwice post (pr, nI n, 0, ks, wt, a1, a2, a3, a4, a5, a6, a7, a8, a9, a10, a11, a12, a13) :=
  ⟨49, hz_s2_w hn h2 hx hs H 49 0 (fun _ => 0) 0 a4 (by omega) hp (hz_mh0 _ _)⟩
end
section
/-- engine 0, the next corner -/
def hz_wi (sg : Nat → Nat → Nat → Nat) (sq : Nat → Nat → Nat → Nat → Nat) (n o : Nat) : Nat → Nat → Nat → Option Nat
  | 0, _, _ => none
  | N + 1, nx, i => if n ≤ i then hz_g (decide (nx < 24)) (some nx) else hz_3 (sg o nx i) (if i = o then hz_wi sg sq n o N nx (i + 1) else hz_wi sg sq n o N i (i + 1)) (hz_2 (sq o i o nx) (hz_wi sg sq n o N nx (i + 1)) (if i = o then hz_wi sg sq n o N nx (i + 1) else hz_wi sg sq n o N i (i + 1))) (hz_wi sg sq n o N nx (i + 1))
/-- engine 0 -/
def hz_wo (sg : Nat → Nat → Nat → Nat) (sq : Nat → Nat → Nat → Nat → Nat) (n : Nat) : Nat → Nat → Nat → (Nat → Nat) → Nat → Option ((Nat → Nat) × Nat)
  | 0, _, _, _, _ => none
  | N + 1, o, g, h, s => if g = 0 then some (h, s) else hz_g (decide (o < n)) ((hz_end o h s).bind (fun q => (hz_wi sg sq n o 25 (if o = 0 then 1 else 0) 0).bind (fun nx => hz_wo sg sq n N nx (if nx = 0 then 0 else 1) q.1 q.2)))
theorem hz_71a {post : St2 → Prop} {J4 : Int32 → Int32 → Int32 → Int32 → Int32 → Int32 → Int32 → (Nat → Int32) → (Nat → Int32) → (Nat → Int32) → (Nat → Int32) → (Nat → Int32) → (Nat → Int32) → (Nat → Int32) → (Nat → Int32) → (Nat → Int32) → (Nat → Int32) → (Nat → Int32) → (Nat → Int32) → (Nat → Int32) → Prop} {J26 : Int32 → Int32 → Prop} {pr ct sz ks wt : Int32} {a1 a2 a3 a4 a5 a6 a7 a8 a9 a10 a11 a12 a13 : Nat → Int32} {i o nx : Nat} {z : Int} {z0 : Int32} (hi : i < 24) (ho : o < 24) (hb : hz_B z) (h : z < 0 ∨ ¬ z0 = 0) (H1 : i = o → J26 (nI nx) (nI (i + 1))) (H2 : i ≠ o → J26 (nI i) (nI (i + 1))) : wX_wrap_71 post J4 J26 (nI o) (nI nx) (nI i) (hz_I z) z0 pr ct sz ks wt a1 a2 a3 a4 a5 a6 a7 a8 a9 a10 a11 a12 a13 := by
  unfold wX_wrap_71
  exact pk_eq i o (fun e => nm_r (nI_1 i) (H1 e)) (fun e => zb_neg hb (fun k => nm_r (nI_1 i) (H2 e)) (fun k => br_f (h.resolve_left (by omega)) (nm_r (nI_1 i) (H2 e))))
theorem hz_71b {post : St2 → Prop} {J4 : Int32 → Int32 → Int32 → Int32 → Int32 → Int32 → Int32 → (Nat → Int32) → (Nat → Int32) → (Nat → Int32) → (Nat → Int32) → (Nat → Int32) → (Nat → Int32) → (Nat → Int32) → (Nat → Int32) → (Nat → Int32) → (Nat → Int32) → (Nat → Int32) → (Nat → Int32) → (Nat → Int32) → Prop} {J26 : Int32 → Int32 → Prop} {pr ct sz ks wt : Int32} {a1 a2 a3 a4 a5 a6 a7 a8 a9 a10 a11 a12 a13 : Nat → Int32} {i o nx : Nat} {z : Int} (hi : i < 24) (ho : o < 24) (hb : hz_B z) (h : 0 ≤ z) (H1 : J26 (nI nx) (nI (i + 1))) : wX_wrap_71 post J4 J26 (nI o) (nI nx) (nI i) (hz_I z) 0 pr ct sz ks wt a1 a2 a3 a4 a5 a6 a7 a8 a9 a10 a11 a12 a13 := by
  unfold wX_wrap_71
  exact pk_eq i o (fun e => nm_r (nI_1 i) H1) (fun e => zb_neg hb (fun k => absurd k (by omega)) (fun k => br_t rfl (nm_r (nI_1 i) H1)))
theorem hz_wi_w {post : St2 → Prop} {J4 : Int32 → Int32 → Int32 → Int32 → Int32 → Int32 → Int32 → (Nat → Int32) → (Nat → Int32) → (Nat → Int32) → (Nat → Int32) → (Nat → Int32) → (Nat → Int32) → (Nat → Int32) → (Nat → Int32) → (Nat → Int32) → (Nat → Int32) → (Nat → Int32) → (Nat → Int32) → (Nat → Int32) → Prop} {pr sz ks wt : Int32} {a1 a2 a3 a4 a5 a6 a7 a8 a9 a10 a11 a12 a13 : Nat → Int32} {X Y : Nat → Int} {n o r : Nat} {sg : Nat → Nat → Nat → Nat} {sq : Nat → Nat → Nat → Nat → Nat} (hn : n ≤ 24) (hx : hz_xy n X Y a2 a3) (hs : hz_sg n X Y sg) (hq : hz_sq n X Y sq) (ho : o < n) (H0 : r = 0 → J4 (nI r) 0 pr (nI n) sz ks wt a1 a2 a3 a4 a5 a6 a7 a8 a9 a10 a11 a12 a13) (H1 : r ≠ 0 → J4 (nI r) 1 pr (nI n) sz ks wt a1 a2 a3 a4 a5 a6 a7 a8 a9 a10 a11 a12 a13) : ∀ N nx i, i ≤ n → hz_wi sg sq n o N nx i = some r → wX_wrap_26 post J4 (nI o) pr (nI n) sz ks wt a1 a2 a3 a4 a5 a6 a7 a8 a9 a10 a11 a12 a13 N (nI nx) (nI i) := by
  intro N
  induction N with
  | zero => intro nx i _ hp; exact absurd hp (by simp [hz_wi])
  | succ N ih =>
    intro nx i hi hp
    rw [hz_wi] at hp
    refine pk_le n i (fun z => ?_) (fun z => ?_)
    · rw [if_pos z] at hp
      obtain ⟨hc, hp⟩ := hz_gE hp
      have hc := of_decide_eq_true hc
      have hr := Option.some.inj hp
      subst hr
      exact pk_eq nx 0 (fun e => H0 e) (fun e => H1 e)
    · rw [if_neg (by omega)] at hp
      rcases hz_3E hp with ⟨ht, hp⟩ | ⟨ht, hp⟩ | ⟨ht, hp⟩
      · obtain ⟨h1, h2, h3, h4⟩ := (hs _ _ _).1 ht
        refine hz_turn hn hx h1 h2 h3 rfl rfl rfl (fun hb => zb_z hb (fun k => absurd k (by omega)) (fun k => ?_))
        unfold wX_wrap_70
        refine hz_71a (by omega) (by omega) hb (Or.inl h4) (fun e => ?_) (fun e => ?_)
        · rw [if_pos e] at hp
          exact ih _ _ (by omega) hp
        · rw [if_neg e] at hp
          exact ih _ _ (by omega) hp
      · obtain ⟨h1, h2, h3, h4⟩ := (hs _ _ _).2.1 ht
        rcases hz_2E hp with ⟨hu, hp⟩ | ⟨hu, hp⟩
        · obtain ⟨_, _, _, _, h5⟩ := (hq _ _ _ _).1 hu
          refine hz_turn hn hx h1 h2 h3 rfl rfl rfl (fun hb => zb_z hb (fun k => hz_square hn hx h1 h3 rfl rfl (fun b1 => hz_square hn hx h1 h2 rfl rfl (fun b2 => zb_le b1 b2 (fun k => ?_) (fun k => absurd k (by omega))))) (fun k => absurd h4 k))
          unfold wX_wrap_70
          exact hz_71b (by omega) (by omega) hb (by omega) (ih _ _ (by omega) hp)
        · obtain ⟨_, _, _, _, h5⟩ := (hq _ _ _ _).2 hu
          refine hz_turn hn hx h1 h2 h3 rfl rfl rfl (fun hb => zb_z hb (fun k => hz_square hn hx h1 h3 rfl rfl (fun b1 => hz_square hn hx h1 h2 rfl rfl (fun b2 => zb_le b1 b2 (fun k => absurd k (by omega)) (fun k => ?_)))) (fun k => absurd h4 k))
          refine hz_71a (by omega) (by omega) hb (Or.inr (by decide)) (fun e => ?_) (fun e => ?_)
          · rw [if_pos e] at hp
            exact ih _ _ (by omega) hp
          · rw [if_neg e] at hp
            exact ih _ _ (by omega) hp
      · obtain ⟨h1, h2, h3, h4⟩ := (hs _ _ _).2.2 ht
        refine hz_turn hn hx h1 h2 h3 rfl rfl rfl (fun hb => zb_z hb (fun k => absurd k (by omega)) (fun k => ?_))
        unfold wX_wrap_70
        exact hz_71b (by omega) (by omega) hb (by omega) (ih _ _ (by omega) hp)
theorem hz_wo_w {post : St2 → Prop} {pr ks wt : Int32} {a1 a2 a3 a5 a6 a7 a8 a9 a10 a11 a12 a13 : Nat → Int32} {X Y : Nat → Int} {n : Nat} {sg : Nat → Nat → Nat → Nat} {sq : Nat → Nat → Nat → Nat → Nat} {r : (Nat → Nat) × Nat} (hn : n ≤ 24) (hx : hz_xy n X Y a2 a3) (hs : hz_sg n X Y sg) (hq : hz_sq n X Y sq) (H : ∀ a4', hz_mh r.2 r.1 a4' → post (pr, nI n, nI r.2, ks, wt, a1, a2, a3, a4', a5, a6, a7, a8, a9, a10, a11, a12, a13)) : ∀ N o g h s a4, g < 24 → hz_wo sg sq n N o g h s = some r → hz_mh s h a4 → wX_wrap_4 post N (nI o) (nI g) pr (nI n) (nI s) ks wt a1 a2 a3 a4 a5 a6 a7 a8 a9 a10 a11 a12 a13 := by
  intro N
  induction N with
  | zero => intro o g h s a4 _ hp _; exact absurd hp (by simp [hz_wo])
  | succ N ih =>
    intro o g h s a4 hg hp hm
    rw [hz_wo] at hp
    refine pk_eq g 0 (fun e => ?_) (fun e => ?_)
    · rw [if_pos e] at hp
      have hr := Option.some.inj hp
      subst hr
      exact H a4 hm
    · rw [if_neg e] at hp
      obtain ⟨hc, hp⟩ := hz_gE hp
      have hc := of_decide_eq_true hc
      obtain ⟨q, hq1, hp⟩ := hz_bE hp
      obtain ⟨nx, hq2, hp⟩ := hz_bE hp
      refine hz_corner hq1 hm rfl (fun a4' hm' => pk_eq o 0 (fun e => ⟨25, ?_⟩) (fun e => ⟨25, ?_⟩))
      · rw [if_pos e] at hq2
        refine hz_wi_w hn hx hs hq hc (fun e0 => ?_) (fun e0 => ?_) 25 1 0 (by omega) hq2
        · rw [if_pos e0] at hp
          exact ih _ 0 _ _ _ (by omega) hp hm'
        · rw [if_neg e0] at hp
          exact ih _ 1 _ _ _ (by omega) hp hm'
      · rw [if_neg e] at hq2
        refine hz_wi_w hn hx hs hq hc (fun e0 => ?_) (fun e0 => ?_) 25 0 0 (by omega) hq2
        · rw [if_pos e0] at hp
          exact ih _ 0 _ _ _ (by omega) hp hm'
        · rw [if_neg e0] at hp
          exact ih _ 1 _ _ _ (by omega) hp hm'
def hz_wrap (sg : Nat → Nat → Nat → Nat) (sq : Nat → Nat → Nat → Nat → Nat) (n : Nat) : Option ((Nat → Nat) × Nat) := hz_wo sg sq n 25 0 1 (fun _ => 0) 0
theorem hz_wrap_w {post : St2 → Prop} {pr ks wt : Int32} {a1 a2 a3 a4 a5 a6 a7 a8 a9 a10 a11 a12 a13 : Nat → Int32} {X Y : Nat → Int} {n : Nat} {sg : Nat → Nat → Nat → Nat} {sq : Nat → Nat → Nat → Nat → Nat} {r : (Nat → Nat) × Nat} (hn : n ≤ 24) (hx : hz_xy n X Y a2 a3) (hs : hz_sg n X Y sg) (hq : hz_sq n X Y sq) (hp : hz_wrap sg sq n = some r) (H : ∀ a4', hz_mh r.2 r.1 a4' → post (pr, nI n, nI r.2, ks, wt, a1, a2, a3, a4', a5, a6, a7, a8, a9, a10, a11, a12, a13)) : wpX_wrap post (pr, nI n, 0, ks, wt, a1, a2, a3, a4, a5, a6, a7, a8, a9, a10, a11, a12, a13) :=
  ⟨25, hz_wo_w hn hx hs hq H 25 0 1 (fun _ => 0) 0 a4 (by omega) hp (hz_mh0 _ _)⟩
/-- engine 1: does i come before j -/
def hz_cb (sg : Nat → Nat → Nat → Nat) (sq : Nat → Nat → Nat → Nat → Nat) (i j : Nat) : Nat := if sg 0 i j = 2 then 1 else if sg 0 i j = 0 then 0 else if sg 0 i j = 1 then sq 0 j 0 i else 2
theorem hz_cb0 {post : Int32 → Prop} {pr ct sz ks wt : Int32} {a1 a2 a3 a4 a5 a6 a7 a8 a9 a10 a11 a12 a13 : Nat → Int32} {X Y : Nat → Int} {n i j : Nat} {p0 p1 : Int32} {sg : Nat → Nat → Nat → Nat} {sq : Nat → Nat → Nat → Nat → Nat} (hn : n ≤ 24) (hx : hz_xy n X Y a2 a3) (hs : hz_sg n X Y sg) (hq : hz_sq n X Y sq) (h : hz_cb sg sq i j = 0) (e0 : p0 = nI i) (e1 : p1 = nI j) (H : j < n → post 0) : wpX_comesBefore post (pr, ct, sz, ks, wt, a1, a2, a3, a4, a5, a6, a7, a8, a9, a10, a11, a12, a13) p0 p1 := by
  unfold hz_cb at h
  by_cases t2 : sg 0 i j = 2
  · rw [if_pos t2] at h
    exact absurd h (by decide)
  rw [if_neg t2] at h
  unfold wpX_comesBefore
  by_cases t0 : sg 0 i j = 0
  · obtain ⟨h1, h2, h3, h4⟩ := (hs _ _ _).1 t0
    exact hz_turn hn hx h1 h2 h3 rfl e0 e1 (fun hb => zb_pos hb (fun k => absurd k (by omega)) (fun k => zb_z hb (fun k => absurd k (by omega)) (fun k => H h3)))
  rw [if_neg t0] at h
  by_cases t1 : sg 0 i j = 1
  · rw [if_pos t1] at h
    obtain ⟨h1, h2, h3, h4⟩ := (hs _ _ _).2.1 t1
    obtain ⟨_, _, _, _, h5⟩ := (hq _ _ _ _).1 h
    exact hz_turn hn hx h1 h2 h3 rfl e0 e1 (fun hb => zb_pos hb (fun k => absurd k (by omega)) (fun k => zb_z hb (fun k => hz_square hn hx h1 h2 rfl e0 (fun b1 => hz_square hn hx h1 h3 rfl e1 (fun b2 => zb_le b2 b1 (fun k => H h3) (fun k => absurd k (by omega))))) (fun k => absurd h4 k)))
  · rw [if_neg t1] at h
    exact absurd h (by decide)
theorem hz_cb1 {post : Int32 → Prop} {pr ct sz ks wt : Int32} {a1 a2 a3 a4 a5 a6 a7 a8 a9 a10 a11 a12 a13 : Nat → Int32} {X Y : Nat → Int} {n i j : Nat} {p0 p1 : Int32} {sg : Nat → Nat → Nat → Nat} {sq : Nat → Nat → Nat → Nat → Nat} (hn : n ≤ 24) (hx : hz_xy n X Y a2 a3) (hs : hz_sg n X Y sg) (hq : hz_sq n X Y sq) (h : hz_cb sg sq i j = 1) (e0 : p0 = nI i) (e1 : p1 = nI j) (H : j < n → post 1) : wpX_comesBefore post (pr, ct, sz, ks, wt, a1, a2, a3, a4, a5, a6, a7, a8, a9, a10, a11, a12, a13) p0 p1 := by
  unfold hz_cb at h
  unfold wpX_comesBefore
  by_cases t2 : sg 0 i j = 2
  · obtain ⟨h1, h2, h3, h4⟩ := (hs _ _ _).2.2 t2
    exact hz_turn hn hx h1 h2 h3 rfl e0 e1 (fun hb => zb_pos hb (fun k => H h3) (fun k => absurd k (by omega)))
  rw [if_neg t2] at h
  by_cases t0 : sg 0 i j = 0
  · rw [if_pos t0] at h
    exact absurd h (by decide)
  rw [if_neg t0] at h
  by_cases t1 : sg 0 i j = 1
  · rw [if_pos t1] at h
    obtain ⟨h1, h2, h3, h4⟩ := (hs _ _ _).2.1 t1
    obtain ⟨_, _, _, _, h5⟩ := (hq _ _ _ _).2 h
    exact hz_turn hn hx h1 h2 h3 rfl e0 e1 (fun hb => zb_pos hb (fun k => absurd k (by omega)) (fun k => zb_z hb (fun k => hz_square hn hx h1 h2 rfl e0 (fun b1 => hz_square hn hx h1 h3 rfl e1 (fun b2 => zb_le b2 b1 (fun k => absurd k (by omega)) (fun k => H h3)))) (fun k => absurd h4 k)))
  · rw [if_neg t1] at h
    exact absurd h (by decide)
/-- engine 1: i goes to its place in the order -/
def hz_ins (sg : Nat → Nat → Nat → Nat) (sq : Nat → Nat → Nat → Nat → Nat) (i : Nat) : Nat → Nat → (Nat → Nat) → Option (Nat → Nat)
  | 0, _, _ => none
  | N + 1, t, o => if t = 0 then some (hz_up o 0 i) else hz_2 (hz_cb sg sq i (o (t - 1))) (some (hz_up o t i)) (hz_ins sg sq i N (t - 1) (hz_up o t (o (t - 1))))
def hz_ord (sg : Nat → Nat → Nat → Nat) (sq : Nat → Nat → Nat → Nat → Nat) (n : Nat) : Nat → Nat → (Nat → Nat) → Option (Nat → Nat)
  | 0, _, _ => none
  | N + 1, i, o => if n ≤ i then some o else (hz_ins sg sq i 25 (i - 1) o).bind (fun o' => hz_ord sg sq n N (i + 1) o')
def hz_a75 (sg : Nat → Nat → Nat → Nat) (n : Nat) (o : Nat → Nat) : Nat → Nat → (Nat → Nat) → Nat → Option ((Nat → Nat) × Nat)
  | 0, _, _, _ => none
  | N + 1, i, h, s => if n ≤ i + 1 then some (h, s) else (hz_pop sg (o i) 1 h 49 s).bind (fun q => hz_a75 sg n o N (i + 1) q.1 q.2)
theorem hz_54 {post : St2 → Prop} {J2 : Int32 → (Nat → Int32) → (Nat → Int32) → (Nat → Int32) → (Nat → Int32) → (Nat → Int32) → (Nat → Int32) → (Nat → Int32) → (Nat → Int32) → (Nat → Int32) → (Nat → Int32) → (Nat → Int32) → (Nat → Int32) → (Nat → Int32) → Prop} {pr ct sz ks wt : Int32} {a1 a2 a3 a4 a5 a6 a7 a8 a9 a10 a11 a12 a13 : Nat → Int32} {i t : Nat} {o : Nat → Nat} (hi : i < 24) (ht : t < i) (hm : ∀ j, j < i → j ≠ t → a7 j = nI (o j)) (H : ∀ a7', (∀ j, j < i → a7' j = nI (hz_up o t i j)) → J2 (nI (i + 1)) a1 a2 a3 a4 a5 a6 a7' a8 a9 a10 a11 a12 a13) : wX_scanAround_54 post J2 (nI i) (nI t) pr ct sz ks wt a1 a2 a3 a4 a5 a6 a7 a8 a9 a10 a11 a12 a13 := by
  unfold wX_scanAround_54
  refine ⟨pk_in t 24 (by omega), nm_e (nm_r (nI_1 i) (H _ ?_))⟩
  intro j hj
  rw [nI_clamp (by omega), hz_b8 i (by omega)]
  unfold hz_up
  by_cases e : j = t
  · rw [e, pk_us, if_pos rfl]
  · rw [pk_un e, if_neg e]
    exact hm j hj e
theorem hz_ins_w {post : St2 → Prop} {J2 : Int32 → (Nat → Int32) → (Nat → Int32) → (Nat → Int32) → (Nat → Int32) → (Nat → Int32) → (Nat → Int32) → (Nat → Int32) → (Nat → Int32) → (Nat → Int32) → (Nat → Int32) → (Nat → Int32) → (Nat → Int32) → (Nat → Int32) → Prop} {pr ct sz ks wt : Int32} {a1 a2 a3 a4 a5 a6 a8 a9 a10 a11 a12 a13 : Nat → Int32} {X Y : Nat → Int} {n i : Nat} {sg : Nat → Nat → Nat → Nat} {sq : Nat → Nat → Nat → Nat → Nat} {r : Nat → Nat} (hn : n ≤ 24) (hx : hz_xy n X Y a2 a3) (hs : hz_sg n X Y sg) (hq : hz_sq n X Y sq) (hi : i < n) (H : ∀ a7', (∀ j, j < i → a7' j = nI (r j)) → J2 (nI (i + 1)) a1 a2 a3 a4 a5 a6 a7' a8 a9 a10 a11 a12 a13) : ∀ N t o a7, t < i → hz_ins sg sq i N t o = some r → (∀ j, j < i → j ≠ t → a7 j = nI (o j)) → wX_scanAround_14 post J2 (nI i) pr ct sz ks wt N (nI t) a1 a2 a3 a4 a5 a6 a7 a8 a9 a10 a11 a12 a13 := by
  intro N
  induction N with
  | zero => intro t o a7 _ hp _; exact absurd hp (by simp [hz_ins])
  | succ N ih =>
    intro t o a7 ht hp hm
    rw [hz_ins] at hp
    refine pk_le t 0 (fun z => ?_) (fun z => ⟨pk_in (t - 1) 24 (by omega) (pk_sub (show 1 ≤ t by omega)), ?_⟩)
    · have z : t = 0 := by omega
      subst z
      rw [if_pos rfl] at hp
      have hr := Option.some.inj hp
      subst hr
      exact hz_54 (by omega) ht hm H
    · rw [if_neg (by omega)] at hp
      have e1 : a7 (nI t - 1).toNatClampNeg = nI (o (t - 1)) := by
        rw [show nI t - 1 = nI (t - 1) from pk_sub (show 1 ≤ t by omega), nI_clamp (by omega)]
        exact hm _ (by omega) (by omega)
      rcases hz_2E hp with ⟨hu, hp⟩ | ⟨hu, hp⟩
      · have hr := Option.some.inj hp
        subst hr
        exact hz_cb0 hn hx hs hq hu rfl e1 (fun _ => br_t rfl (hz_54 (by omega) ht hm H))
      · refine hz_cb1 hn hx hs hq hu rfl e1 (fun hj => br_f (by decide) ⟨pk_in (t - 1) 24 (by omega) (pk_sub (show 1 ≤ t by omega)), pk_in t 24 (by omega), nm_e (nm_r (show nI t + (-1) = nI (t - 1) from ?_) (ih _ _ _ (by omega) hp ?_))⟩)
        · rw [show t = (t - 1) + 1 by omega, pk_m1]
          rfl
        · intro j hj1 hj2
          rw [e1, nI_clamp (show t < 2 ^ 31 by omega), hz_v8 _ (by omega)]
          unfold hz_up
          by_cases e : j = t
          · rw [e, pk_us, if_pos rfl]
          · rw [pk_un e, if_neg e]
            exact hm j hj1 e
theorem hz_a75_w {post : St2 → Prop} {pr ks wt : Int32} {a1 a2 a3 a5 a6 a7 a8 a9 a10 a11 a12 a13 : Nat → Int32} {X Y : Nat → Int} {n : Nat} {sg : Nat → Nat → Nat → Nat} {o : Nat → Nat} {r : (Nat → Nat) × Nat} (hn : n ≤ 24) (hx : hz_xy n X Y a2 a3) (hs : hz_sg n X Y sg) (ho : ∀ j, j + 1 < n → a7 j = nI (o j)) (H : ∀ a4', hz_mh r.2 r.1 a4' → post (pr, nI n, nI r.2, ks, wt, a1, a2, a3, a4', a5, a6, a7, a8, a9, a10, a11, a12, a13)) : ∀ N i h s a4, i ≤ n → hz_a75 sg n o N i h s = some r → hz_mh s h a4 → wX_scanAround_75 post N (nI i) pr (nI n) (nI s) ks wt a1 a2 a3 a4 a5 a6 a7 a8 a9 a10 a11 a12 a13 := by
  intro N
  induction N with
  | zero => intro i h s a4 _ hp _; exact absurd hp (by simp [hz_a75])
  | succ N ih =>
    intro i h s a4 hi hp hm
    rw [hz_a75] at hp
    refine pk_le n (i + 1) (fun z => ?_) (fun z => ⟨pk_in i 24 (by omega), ?_⟩) rfl (nI_1 i)
    · rw [if_pos z] at hp
      have hr := Option.some.inj hp
      subst hr
      exact H a4 hm
    · rw [if_neg (by omega)] at hp
      obtain ⟨q, hq, hp⟩ := hz_bE hp
      exact hz_push hn hx hs hq hm (by rw [nI_clamp (by omega)]; exact ho i (by omega)) rfl (fun a4' hm' => nm_r (nI_1 i) (ih _ _ _ _ (by omega) hp hm'))
def hz_ar (sg : Nat → Nat → Nat → Nat) (n : Nat) (o : Nat → Nat) : Option ((Nat → Nat) × Nat) := (hz_end 0 (fun _ => 0) 0).bind (fun q => hz_a75 sg n o 25 0 q.1 q.2)
theorem hz_ord_w {post : St2 → Prop} {pr ks wt : Int32} {a1 a2 a3 a4 a5 a6 a8 a9 a10 a11 a12 a13 : Nat → Int32} {X Y : Nat → Int} {n : Nat} {sg : Nat → Nat → Nat → Nat} {sq : Nat → Nat → Nat → Nat → Nat} {r : (Nat → Nat) × Nat} (hn : n ≤ 24) (hx : hz_xy n X Y a2 a3) (hs : hz_sg n X Y sg) (hq : hz_sq n X Y sq) (H : ∀ a4' a7', hz_mh r.2 r.1 a4' → post (pr, nI n, nI r.2, ks, wt, a1, a2, a3, a4', a5, a6, a7', a8, a9, a10, a11, a12, a13)) : ∀ N i o a7, 1 ≤ i → i ≤ n → (hz_ord sg sq n N i o).bind (hz_ar sg n) = some r → (∀ j, j + 1 < i → a7 j = nI (o j)) → wX_scanAround_2 post pr (nI n) 0 ks wt N (nI i) a1 a2 a3 a4 a5 a6 a7 a8 a9 a10 a11 a12 a13 := by
  intro N
  induction N with
  | zero => intro i o a7 _ _ hp _; exact absurd hp (by simp [hz_ord])
  | succ N ih =>
    intro i o a7 h1 hi hp hm
    refine pk_le n i (fun z => ?_) (fun z => ?_)
    · rw [hz_ord, if_pos z] at hp
      obtain ⟨q, hq1, hp⟩ := hz_bE (show (hz_end 0 (fun _ => 0) 0).bind (fun q => hz_a75 sg n o 25 0 q.1 q.2) = some r from hp)
      refine hz_corner (s := 0) hq1 (hz_mh0 _ _) rfl (fun a4' hm' => ⟨25, ?_⟩)
      exact hz_a75_w hn hx hs (fun j hj => hm j (by omega)) (fun b hb => H b _ hb) 25 0 _ _ _ (by omega) hp hm'
    · rw [hz_ord, if_neg (by omega)] at hp
      obtain ⟨o2, hp1, hp2⟩ := hz_bE hp
      obtain ⟨o1, hp3, hp4⟩ := hz_bE hp1
      refine nm_r (pk_sub h1) ⟨25, hz_ins_w hn hx hs hq (by omega) (fun a7' hm' => ?_) 25 (i - 1) o a7 (by omega) hp3 (fun j hj hj' => hm j (by omega))⟩
      refine ih (i + 1) o1 a7' (by omega) (by omega) ?_ (fun j hj => hm' j (by omega))
      rw [hp4]
      exact hp2
def hz_around (sg : Nat → Nat → Nat → Nat) (sq : Nat → Nat → Nat → Nat → Nat) (n : Nat) : Option ((Nat → Nat) × Nat) := (hz_ord sg sq n 25 1 (fun _ => 0)).bind (hz_ar sg n)
theorem hz_around_w {post : St2 → Prop} {pr ks wt : Int32} {a1 a2 a3 a4 a5 a6 a7 a8 a9 a10 a11 a12 a13 : Nat → Int32} {X Y : Nat → Int} {n : Nat} {sg : Nat → Nat → Nat → Nat} {sq : Nat → Nat → Nat → Nat → Nat} {r : (Nat → Nat) × Nat} (hn : n ≤ 24) (h2 : 2 ≤ n) (hx : hz_xy n X Y a2 a3) (hs : hz_sg n X Y sg) (hq : hz_sq n X Y sq) (hp : hz_around sg sq n = some r) (H : ∀ a4' a7', hz_mh r.2 r.1 a4' → post (pr, nI n, nI r.2, ks, wt, a1, a2, a3, a4', a5, a6, a7', a8, a9, a10, a11, a12, a13)) : wpX_scanAround post (pr, nI n, 0, ks, wt, a1, a2, a3, a4, a5, a6, a7, a8, a9, a10, a11, a12, a13) :=
  ⟨25, hz_ord_w hn hx hs hq H 25 1 (fun _ => 0) a7 (by omega) (by omega) hp (fun j hj => absurd hj (by omega))⟩
end
section
theorem hz_101 {post : Int32 → Prop} {J11 : Int32 → Int32 → Int32 → Int32 → Prop} {pr ct sz ks wt : Int32} {a1 a2 a3 a4 a5 a6 a7 a8 a9 a10 a11 a12 a13 : Nat → Int32} {x1 x2 x3 x4 x5 x6 x7 x8 : Int32} (H : J11 x6 x7 x8 (x6 + 1)) : wX_farthestRight_101 post J11 x1 x2 x3 x4 x5 x6 x7 x8 pr ct sz ks wt a1 a2 a3 a4 a5 a6 a7 a8 a9 a10 a11 a12 a13 := by
  unfold wX_farthestRight_101 wX_farthestRight_106 wX_farthestRight_119 wX_farthestRight_132
  exact br_f (by decide) (br_f (by decide) (br_f (by decide) (nm_e H)))
theorem hz_105 {post : Int32 → Prop} {J11 : Int32 → Int32 → Int32 → Int32 → Prop} {pr ct sz ks wt : Int32} {a1 a2 a3 a4 a5 a6 a7 a8 a9 a10 a11 a12 a13 : Nat → Int32} {x1 x2 x3 x4 x5 x6 x7 x8 : Int32} (H : J11 x3 x4 x5 (x6 + 1)) : wX_farthestRight_105 post J11 x1 x2 x3 x4 x5 x6 x7 x8 pr ct sz ks wt a1 a2 a3 a4 a5 a6 a7 a8 a9 a10 a11 a12 a13 := by
  unfold wX_farthestRight_105 wX_farthestRight_106 wX_farthestRight_119 wX_farthestRight_132
  exact br_t rfl (br_t rfl (br_t rfl (nm_e H)))
theorem hz_fr_0 {post : Int32 → Prop} {pr sz ks wt : Int32} {a1 a2 a3 a4 a5 a6 a7 a8 a9 a10 a11 a12 a13 : Nat → Int32} {X Y : Nat → Int} {n a b : Nat} {p0 p1 : Int32} (hn : n ≤ 24) (hx : hz_xy n X Y a2 a3) (ha : a < n) (hb : b < n) (e0 : p0 = nI a) (e1 : p1 = nI b) (h : ∀ i, i < n → 0 ≤ hz_cr X Y a b i) (H : post (-1)) : wpX_farthestRight post (pr, nI n, sz, ks, wt, a1, a2, a3, a4, a5, a6, a7, a8, a9, a10, a11, a12, a13) p0 p1 := by
  subst e0 e1
  exact pk_loop (σ := Unit) (fun N i _ => wX_farthestRight_11 post (nI a) (nI b) pr (nI n) sz ks wt a1 a2 a3 a4 a5 a6 a7 a8 a9 a10 a11 a12 a13 N (-1) 0 0 (nI i)) (fun _ _ => True) n 0 () (by omega) trivial
    (fun N _ _ => pk_le n n (fun _ => H) (fun z => absurd z (by omega)))
    (fun N i _ hi _ hw => pk_le n i (fun z => absurd z (by omega)) (fun _ => hz_turn hn hx ha hb hi rfl rfl rfl (fun hB => ⟨pk_in b 24 (by omega), pk_in a 24 (by omega), pk_in i 24 (by omega), pk_in b 24 (by omega), pk_in a 24 (by omega), pk_in i 24 (by omega), nm_e (zb_neg hB (fun k => absurd (h i hi) (by omega)) (fun _ => zb_nn hB (fun _ => hz_105 (by rw [nI_1]; exact hw () trivial)) (fun k => absurd (h i hi) (by omega))))⟩)))
theorem hz_fr_m {post : Int32 → Prop} {pr sz ks wt : Int32} {a1 a2 a3 a4 a5 a6 a7 a8 a9 a10 a11 a12 a13 : Nat → Int32} {X Y : Nat → Int} {n a b m : Nat} {p0 p1 : Int32} (hn : n ≤ 24) (hx : hz_xy n X Y a2 a3) (ha : a < n) (hb : b < n) (hm : m < n) (e0 : p0 = nI a) (e1 : p1 = nI b) (h1 : hz_cr X Y a b m < 0) (h2 : ∀ i, i < n → i ≠ m → hz_cr X Y a b m < hz_cr X Y a b i) (H : post (nI m)) : wpX_farthestRight post (pr, nI n, sz, ks, wt, a1, a2, a3, a4, a5, a6, a7, a8, a9, a10, a11, a12, a13) p0 p1 := by
  subst e0 e1
  have hBm := hz_crB hx ha hb hm
  refine pk_loop (σ := Int32 × Int32 × Int32) (fun N i s => wX_farthestRight_11 post (nI a) (nI b) pr (nI n) sz ks wt a1 a2 a3 a4 a5 a6 a7 a8 a9 a10 a11 a12 a13 N s.1 s.2.1 s.2.2 (nI i)) (fun i s => (i ≤ m → ∃ t, s.2.1 = hz_I t ∧ hz_cr X Y a b m < t ∧ t ≤ 0) ∧ (m < i → s.1 = nI m ∧ s.2.1 = hz_I (hz_cr X Y a b m))) n 0 (-1, 0, 0) (by omega) ⟨fun _ => ⟨0, hz_0, h1, by omega⟩, fun z => absurd z (by omega)⟩ ?_ ?_
  · intro N s hI
    refine pk_le n n (fun _ => ?_) (fun z => absurd z (by omega))
    rw [(hI.2 hm).1]
    exact H
  · intro N i s hi hI hw
    obtain ⟨s1, s2, s3⟩ := s
    refine pk_le n i (fun z => absurd z (by omega)) (fun _ => hz_turn hn hx ha hb hi rfl rfl rfl (fun hB => ⟨pk_in b 24 (by omega), pk_in a 24 (by omega), pk_in i 24 (by omega), pk_in b 24 (by omega), pk_in a 24 (by omega), pk_in i 24 (by omega), nm_e ?_⟩))
    rcases Nat.lt_trichotomy i m with z | z | z
    · obtain ⟨t, et, t1, t2⟩ := hI.1 (by omega)
      have et : s2 = hz_I t := et
      subst et
      have hBt : hz_B t := ⟨by omega, by omega⟩
      have hi2 := h2 i hi (by omega)
      have stay : ∀ w, wX_farthestRight_11 post (nI a) (nI b) pr (nI n) sz ks wt a1 a2 a3 a4 a5 a6 a7 a8 a9 a10 a11 a12 a13 N s1 (hz_I t) w (nI i + 1) := by
        intro w
        rw [nI_1]
        exact hw (s1, hz_I t, w) ⟨fun _ => ⟨t, rfl, t1, t2⟩, fun z => absurd z (by omega)⟩
      have take : hz_cr X Y a b i ≤ 0 → ∀ w, wX_farthestRight_11 post (nI a) (nI b) pr (nI n) sz ks wt a1 a2 a3 a4 a5 a6 a7 a8 a9 a10 a11 a12 a13 N (nI i) (hz_I (hz_cr X Y a b i)) w (nI i + 1) := by
        intro k w
        rw [nI_1]
        exact hw (nI i, hz_I (hz_cr X Y a b i), w) ⟨fun _ => ⟨_, rfl, hi2, k⟩, fun z => absurd z (by omega)⟩
      exact zb_lt hB hBt (fun k => hz_101 (take (by omega) _)) (fun k => zb_nn hB (fun _ => hz_105 (stay _)) (fun k2 => zb_eq hB hBt (fun k3 => br_c (fun _ => hz_105 (stay _)) (fun _ => hz_101 (take (by omega) _))) (fun _ => hz_105 (stay _))))
    · subst z
      obtain ⟨t, et, t1, t2⟩ := hI.1 (by omega)
      have et : s2 = hz_I t := et
      subst et
      have hBt : hz_B t := ⟨by omega, by omega⟩
      refine zb_lt hB hBt (fun k => hz_101 ?_) (fun k => absurd k (by omega))
      rw [nI_1]
      exact hw (nI i, hz_I (hz_cr X Y a b i), _) ⟨fun z => absurd z (by omega), fun _ => ⟨rfl, rfl⟩⟩
    · obtain ⟨q1, q2⟩ := hI.2 z
      have q1 : s1 = nI m := q1
      have q2 : s2 = hz_I (hz_cr X Y a b m) := q2
      subst q1 q2
      have hBt : hz_B (hz_cr X Y a b m) := ⟨by omega, by omega⟩
      have hi2 := h2 i hi (by omega)
      have stay : wX_farthestRight_11 post (nI a) (nI b) pr (nI n) sz ks wt a1 a2 a3 a4 a5 a6 a7 a8 a9 a10 a11 a12 a13 N (nI m) (hz_I (hz_cr X Y a b m)) s3 (nI i + 1) := by
        rw [nI_1]
        exact hw (nI m, hz_I (hz_cr X Y a b m), s3) ⟨fun z => absurd z (by omega), fun _ => ⟨rfl, rfl⟩⟩
      exact zb_lt hB hBt (fun k => absurd k (by omega)) (fun k => zb_nn hB (fun _ => hz_105 stay) (fun k2 => zb_eq hB hBt (fun k3 => absurd k3 (by omega)) (fun _ => hz_105 stay)))
theorem hz_wait {post : St2 → Prop} {pr ct sz ks : Int32} {a1 a2 a3 a4 a5 a6 a7 a8 a9 a10 a11 a12 a13 : Nat → Int32} {A B : Nat → Nat} {w a b : Nat} {p0 p1 : Int32} (hw : w < 48) (ha : a < 128) (hb : b < 128) (e0 : p0 = nI a) (e1 : p1 = nI b) (hA : hz_mh w A a8) (hB : hz_mh w B a9) (H : ∀ a8' a9', hz_mh (w + 1) (hz_up A w a) a8' → hz_mh (w + 1) (hz_up B w b) a9' → post (pr, ct, sz, ks, nI (w + 1), a1, a2, a3, a4, a5, a6, a7, a8', a9', a10, a11, a12, a13)) : wpX_wait post (pr, ct, sz, ks, nI w, a1, a2, a3, a4, a5, a6, a7, a8, a9, a10, a11, a12, a13) p0 p1 := by
  subst e0 e1
  unfold wpX_wait
  refine ⟨pk_in w 48 hw, nm_e ⟨pk_in w 48 hw, nm_e (nm_r (nI_1 w) (H _ _ ?_ ?_))⟩⟩
  · rw [nI_clamp (by omega), hz_b8 a ha]
    exact hz_mhS hA rfl ha
  · rw [nI_clamp (by omega), hz_b8 b hb]
    exact hz_mhS hB rfl hb
/-- an oracle for the farthest on the right: 0 nobody, m + 1: m -/
def hz_fr (n : Nat) (X Y : Nat → Int) (fr : Nat → Nat → Nat) : Prop := ∀ a b, (fr a b = 0 → a < n ∧ b < n ∧ ∀ i, i < n → 0 ≤ hz_cr X Y a b i) ∧ (∀ m, m < 24 → fr a b = m + 1 → a < n ∧ b < n ∧ m < n ∧ hz_cr X Y a b m < 0 ∧ ∀ i, i < n → i ≠ m → hz_cr X Y a b m < hz_cr X Y a b i)
/-- engine 3 -/
def hz_po (fr : Nat → Nat → Nat) : Nat → (Nat → Nat) → Nat → (Nat → Nat) → (Nat → Nat) → Nat → Option ((Nat → Nat) × Nat)
  | 0, _, _, _, _, _ => none
  | N + 1, h, s, A, B, w => if w = 0 then some (h, s) else hz_g (decide (w < 47 ∧ fr (A (w - 1)) (B (w - 1)) ≤ 24)) (if fr (A (w - 1)) (B (w - 1)) = 0 then (hz_end (A (w - 1)) h s).bind (fun q => hz_po fr N q.1 q.2 A B (w - 1)) else hz_po fr N h s (hz_up (hz_up A (w - 1) (fr (A (w - 1)) (B (w - 1)) - 1)) w (A (w - 1))) (hz_up (hz_up B (w - 1) (B (w - 1))) w (fr (A (w - 1)) (B (w - 1)) - 1)) (w + 1))
theorem hz_po_w {post : St2 → Prop} {pr ks : Int32} {a1 a2 a3 a5 a6 a7 a10 a11 a12 a13 : Nat → Int32} {X Y : Nat → Int} {n : Nat} {fr : Nat → Nat → Nat} {r : (Nat → Nat) × Nat} (hn : n ≤ 24) (hx : hz_xy n X Y a2 a3) (hf : hz_fr n X Y fr) (H : ∀ wt a4 a8 a9, hz_mh r.2 r.1 a4 → post (pr, nI n, nI r.2, ks, wt, a1, a2, a3, a4, a5, a6, a7, a8, a9, a10, a11, a12, a13)) : ∀ N h s A B w a4 a8 a9, w < 48 → hz_po fr N h s A B w = some r → hz_mh s h a4 → hz_mh w A a8 → hz_mh w B a9 → wX_partOff_27 post N pr (nI n) (nI s) ks (nI w) a1 a2 a3 a4 a5 a6 a7 a8 a9 a10 a11 a12 a13 := by
  intro N
  induction N with
  | zero => intro h s A B w a4 a8 a9 _ hp _ _ _; exact absurd hp (by simp [hz_po])
  | succ N ih =>
    intro h s A B w a4 a8 a9 hw hp hm hA hB
    rw [hz_po] at hp
    refine pk_le w 0 (fun z => ?_) (fun z => nm_r (show nI w - 1 = nI (w - 1) from pk_sub (show 1 ≤ w by omega)) ?_)
    · rw [if_pos (by omega)] at hp
      have hr := Option.some.inj hp
      subst hr
      exact H _ _ _ _ hm
    · rw [if_neg (by omega)] at hp
      obtain ⟨hc, hp⟩ := hz_gE hp
      have hc := of_decide_eq_true hc
      have eA : a8 (nI (w - 1)).toNatClampNeg = nI (A (w - 1)) := by
        rw [nI_clamp (by omega)]
        exact (hA _ (by omega)).1
      have eB : a9 (nI (w - 1)).toNatClampNeg = nI (B (w - 1)) := by
        rw [nI_clamp (by omega)]
        exact (hB _ (by omega)).1
      have bA := (hA (w - 1) (by omega)).2
      have bB := (hB (w - 1) (by omega)).2
      have hA' : hz_mh (w - 1) A a8 := fun j hj => hA j (by omega)
      have hB' : hz_mh (w - 1) B a9 := fun j hj => hB j (by omega)
      refine ⟨pk_in (w - 1) 48 (by omega), nm_r eA ⟨pk_in (w - 1) 48 (by omega), nm_r eB ?_⟩⟩
      by_cases e : fr (A (w - 1)) (B (w - 1)) = 0
      · rw [if_pos e] at hp
        obtain ⟨q, hq, hp⟩ := hz_bE hp
        obtain ⟨h1, h2, h3⟩ := (hf _ _).1 e
        exact hz_fr_0 hn hx h1 h2 rfl rfl h3 (br_f (by decide) (hz_corner hq hm rfl (fun a4' hm' => ih _ _ _ _ _ _ _ _ (by omega) hp hm' hA' hB')))
      · rw [if_neg e] at hp
        obtain ⟨m, em⟩ : ∃ m, fr (A (w - 1)) (B (w - 1)) = m + 1 := ⟨fr (A (w - 1)) (B (w - 1)) - 1, by omega⟩
        rw [em] at hp
        obtain ⟨h1, h2, h3, h4, h5⟩ := (hf _ _).2 m (by omega) em
        refine hz_fr_m hn hx h1 h2 h3 rfl rfl h4 h5 (br_t (nI_pos' (by omega)) (hz_wait (w := w - 1) (by omega) (by omega) bB rfl rfl hA' hB' (fun a8' a9' hA2 hB2 => ?_)))
        rw [show w - 1 + 1 = w by omega] at hA2 hB2 ⊢
        exact hz_wait (w := w) (by omega) bA (by omega) rfl rfl hA2 hB2 (fun a8'' a9'' hA3 hB3 => ih _ _ _ _ _ _ _ _ (by omega) hp hm hA3 hB3)
def hz_part (fr : Nat → Nat → Nat) (n : Nat) : Option ((Nat → Nat) × Nat) := hz_po fr 97 (fun _ => 0) 0 (hz_up (hz_up (fun _ => 0) 0 (n - 1)) 1 0) (hz_up (hz_up (fun _ => 0) 0 0) 1 (n - 1)) 2
theorem hz_part_w {post : St2 → Prop} {pr ks wt : Int32} {a1 a2 a3 a4 a5 a6 a7 a8 a9 a10 a11 a12 a13 : Nat → Int32} {X Y : Nat → Int} {n : Nat} {fr : Nat → Nat → Nat} {r : (Nat → Nat) × Nat} (hn : n ≤ 24) (h2 : 2 ≤ n) (hx : hz_xy n X Y a2 a3) (hf : hz_fr n X Y fr) (hp : hz_part fr n = some r) (H : ∀ wt a4 a8 a9, hz_mh r.2 r.1 a4 → post (pr, nI n, nI r.2, ks, wt, a1, a2, a3, a4, a5, a6, a7, a8, a9, a10, a11, a12, a13)) : wpX_partOff post (pr, nI n, 0, ks, wt, a1, a2, a3, a4, a5, a6, a7, a8, a9, a10, a11, a12, a13) := by
  have e : nI n - 1 = nI (n - 1) := pk_sub (show 1 ≤ n by omega)
  unfold wpX_partOff
  exact hz_wait (w := 0) (by omega) (show n - 1 < 128 by omega) (show 0 < 128 by omega) e rfl (hz_mh0 _ _) (hz_mh0 _ _) (fun a8' a9' hA hB => hz_wait (w := 1) (by omega) (show 0 < 128 by omega) (show n - 1 < 128 by omega) rfl e hA hB (fun a8'' a9'' hA2 hB2 => ⟨97, hz_po_w hn hx hf H 97 _ 0 _ _ 2 _ _ _ (by omega) hp (hz_mh0 _ _) hA2 hB2⟩))
end
section
/-- a number or none (0), as a byte: none is -1 -/
def hz_E (v : Nat) : Int32 := hz_I ((v : Int) - 1)
theorem hz_E0 : hz_E 0 = -1 := by decide
theorem hz_ES (v : Nat) : hz_E (v + 1) = nI v := by
  unfold hz_E
  rw [hz_n, show (((v + 1 : Nat) : Int) - 1) = (v : Int) by omega]
theorem hz_Ep {v : Nat} (h : v ≠ 0) : hz_E v = nI (v - 1) := by
  obtain ⟨w, rfl⟩ : ∃ w, v = w + 1 := ⟨v - 1, by omega⟩
  exact hz_ES w
/-- the array holds a chain -/
def hz_mc (n : Nat) (f : Nat → Nat) (a : Nat → Int32) : Prop := ∀ j, j < n → a j = hz_E (f j)
theorem hz_mcU {n k v : Nat} {f : Nat → Nat} {a : Nat → Int32} {x : Int32} (H : hz_mc n f a) (hx : x = hz_E v) : hz_mc n (hz_up f k v) (upd a k x) := by
  intro j hj
  unfold hz_up
  by_cases e : j = k
  · rw [e, pk_us, if_pos rfl, hx]
  · rw [pk_un e, if_neg e]
    exact H j hj
theorem hz_stLow {n a b c : Nat} {X Y : Nat → Int} {sg : Nat → Nat → Nat → Nat} (hs : hz_sg n X Y sg) (h : sg a b c = 2) : a < n ∧ b < n ∧ c < n ∧ 0 < hz_cr X Y a b c := (hs _ _ _).2.2 h
theorem hz_stHigh {n a b c : Nat} {X Y : Nat → Int} {sg : Nat → Nat → Nat → Nat} (hs : hz_sg n X Y sg) (h : sg a b c = 0) : a < n ∧ b < n ∧ c < n ∧ hz_cr X Y a b c < 0 := (hs _ _ _).1 h
theorem hz_mvLow {n a b c : Nat} {X Y : Nat → Int} {sg : Nat → Nat → Nat → Nat} (hs : hz_sg n X Y sg) (h : ¬ sg a b c = 2) (h2 : sg a b c ≤ 2) : a < n ∧ b < n ∧ c < n ∧ hz_cr X Y a b c ≤ 0 := by
  have t : sg a b c = 0 ∨ sg a b c = 1 := by omega
  rcases t with t | t
  · obtain ⟨h1, h2, h3, h4⟩ := (hs _ _ _).1 t
    exact ⟨h1, h2, h3, by omega⟩
  · obtain ⟨h1, h2, h3, h4⟩ := (hs _ _ _).2.1 t
    exact ⟨h1, h2, h3, by omega⟩
theorem hz_mvHigh {n a b c : Nat} {X Y : Nat → Int} {sg : Nat → Nat → Nat → Nat} (hs : hz_sg n X Y sg) (h : ¬ sg a b c = 0) (h2 : sg a b c ≤ 2) : a < n ∧ b < n ∧ c < n ∧ 0 ≤ hz_cr X Y a b c := by
  have t : sg a b c = 1 ∨ sg a b c = 2 := by omega
  rcases t with t | t
  · obtain ⟨h1, h2, h3, h4⟩ := (hs _ _ _).2.1 t
    exact ⟨h1, h2, h3, by omega⟩
  · obtain ⟨h1, h2, h3, h4⟩ := (hs _ _ _).2.2 t
    exact ⟨h1, h2, h3, by omega⟩
/-- engine 4: the bridge's left end goes down -/
def hz_b58 (sg : Nat → Nat → Nat → Nat) (st : Nat) (bf : Nat → Nat) (n j : Nat) : Nat → Nat → Nat → Option (Nat × Nat)
  | 0, _, _ => none
  | N + 1, i, mv => hz_g (decide (i < n)) (if bf i = 0 then some (i, mv) else if sg (bf i - 1) i j = st then some (i, mv) else hz_g (decide (sg (bf i - 1) i j ≤ 2)) (hz_b58 sg st bf n j N (bf i - 1) 1))
/-- engine 4: the bridge's right end goes down -/
def hz_b16 (sg : Nat → Nat → Nat → Nat) (st : Nat) (nx : Nat → Nat) (n i : Nat) : Nat → Nat → Nat → Option (Nat × Nat)
  | 0, _, _ => none
  | N + 1, j, mv => hz_g (decide (j < n)) (if nx j = 0 then some (j, mv) else if sg i j (nx j - 1) = st then some (j, mv) else hz_g (decide (sg i j (nx j - 1) ≤ 2)) (hz_b16 sg st nx n i N (nx j - 1) 1))
def hz_b8l (sg : Nat → Nat → Nat → Nat) (st : Nat) (nx bf : Nat → Nat) (n : Nat) : Nat → Nat → Nat → Nat → Option (Nat × Nat)
  | 0, _, _, _ => none
  | N + 1, i, j, mv => hz_g (decide (mv < 24)) (if mv = 0 then hz_g (decide (i < n ∧ j < n)) (some (i, j)) else (hz_b16 sg st nx n i 25 j 0).bind (fun q => (hz_b58 sg st bf n q.1 25 i q.2).bind (fun p => hz_b8l sg st nx bf n N p.1 q.1 p.2)))
theorem hz_58Low {post : St2 → Prop} {J8 : Int32 → Int32 → Int32 → Prop} {pr ct sz ks wt : Int32} {a1 a2 a3 a4 a5 a6 a7 a8 a9 a10 a11 a12 a13 : Nat → Int32} {X Y : Nat → Int} {n j : Nat} {sg : Nat → Nat → Nat → Nat} {bf : Nat → Nat} {r : Nat × Nat} (hn : n ≤ 24) (hx : hz_xy n X Y a2 a3) (hs : hz_sg n X Y sg) (hc : hz_mc n bf a11) (H : J8 (nI r.1) (nI j) (nI r.2)) : ∀ N i mv, hz_b58 sg 2 bf n j N i mv = some r → wX_bridgeLow_58 post J8 (nI j) pr ct sz ks wt a1 a2 a3 a4 a5 a6 a7 a8 a9 a10 a11 a12 a13 N (nI i) (nI mv) := by
  intro N
  induction N with
  | zero => intro i mv hp; exact absurd hp (by simp [hz_b58])
  | succ N ih =>
    intro i mv hp
    rw [hz_b58] at hp
    obtain ⟨hi, hp⟩ := hz_gE hp
    have hi := of_decide_eq_true hi
    have e1 : a11 (nI i).toNatClampNeg = hz_E (bf i) := by
      rw [nI_clamp (by omega)]
      exact hc i hi
    by_cases e : bf i = 0
    · rw [if_pos e] at hp
      have hr := Option.some.inj hp
      subst hr
      exact ⟨pk_in i 24 (by omega), br_t (by rw [e1, e]; decide) H⟩
    · rw [if_neg e] at hp
      have e1' : a11 (nI i).toNatClampNeg = nI (bf i - 1) := e1.trans (hz_Ep e)
      by_cases t : sg (bf i - 1) i j = 2
      · rw [if_pos t] at hp
        have hr := Option.some.inj hp
        subst hr
        obtain ⟨h1, h2, h3, h4⟩ := hz_stLow hs t
        exact ⟨pk_in i 24 (by omega), br_f (by rw [e1']; exact nI_pos (by omega)) ⟨pk_in i 24 (by omega), hz_turn hn hx h1 h2 h3 e1' rfl rfl (fun hb => zb_pos hb (fun k => H) (fun k => absurd k (by omega)))⟩⟩
      · rw [if_neg t] at hp
        obtain ⟨t2, hp⟩ := hz_gE hp
        obtain ⟨h1, h2, h3, h4⟩ := hz_mvLow hs t (of_decide_eq_true t2)
        exact ⟨pk_in i 24 (by omega), br_f (by rw [e1']; exact nI_pos (by omega)) ⟨pk_in i 24 (by omega), hz_turn hn hx h1 h2 h3 e1' rfl rfl (fun hb => zb_pos hb (fun k => absurd k (by omega)) (fun k => ⟨pk_in i 24 (by omega), nm_r e1' (ih _ 1 hp)⟩))⟩⟩
theorem hz_16Low {post : St2 → Prop} {J8 : Int32 → Int32 → Int32 → Prop} {pr ct sz ks wt : Int32} {a1 a2 a3 a4 a5 a6 a7 a8 a9 a10 a11 a12 a13 : Nat → Int32} {X Y : Nat → Int} {n i : Nat} {sg : Nat → Nat → Nat → Nat} {nx : Nat → Nat} {r : Nat × Nat} (hn : n ≤ 24) (hx : hz_xy n X Y a2 a3) (hs : hz_sg n X Y sg) (hc : hz_mc n nx a10) (H : ∃ fu, wX_bridgeLow_58 post J8 (nI r.1) pr ct sz ks wt a1 a2 a3 a4 a5 a6 a7 a8 a9 a10 a11 a12 a13 fu (nI i) (nI r.2)) : ∀ N j mv, hz_b16 sg 2 nx n i N j mv = some r → wX_bridgeLow_16 post J8 (nI i) pr ct sz ks wt a1 a2 a3 a4 a5 a6 a7 a8 a9 a10 a11 a12 a13 N (nI j) (nI mv) := by
  intro N
  induction N with
  | zero => intro j mv hp; exact absurd hp (by simp [hz_b16])
  | succ N ih =>
    intro j mv hp
    rw [hz_b16] at hp
    obtain ⟨hi, hp⟩ := hz_gE hp
    have hi := of_decide_eq_true hi
    have e1 : a10 (nI j).toNatClampNeg = hz_E (nx j) := by
      rw [nI_clamp (by omega)]
      exact hc j hi
    by_cases e : nx j = 0
    · rw [if_pos e] at hp
      have hr := Option.some.inj hp
      subst hr
      exact ⟨pk_in j 24 (by omega), br_t (by rw [e1, e]; decide) H⟩
    · rw [if_neg e] at hp
      have e1' : a10 (nI j).toNatClampNeg = nI (nx j - 1) := e1.trans (hz_Ep e)
      by_cases t : sg i j (nx j - 1) = 2
      · rw [if_pos t] at hp
        have hr := Option.some.inj hp
        subst hr
        obtain ⟨h1, h2, h3, h4⟩ := hz_stLow hs t
        exact ⟨pk_in j 24 (by omega), br_f (by rw [e1']; exact nI_pos (by omega)) ⟨pk_in j 24 (by omega), hz_turn hn hx h1 h2 h3 rfl rfl e1' (fun hb => zb_pos hb (fun k => H) (fun k => absurd k (by omega)))⟩⟩
      · rw [if_neg t] at hp
        obtain ⟨t2, hp⟩ := hz_gE hp
        obtain ⟨h1, h2, h3, h4⟩ := hz_mvLow hs t (of_decide_eq_true t2)
        exact ⟨pk_in j 24 (by omega), br_f (by rw [e1']; exact nI_pos (by omega)) ⟨pk_in j 24 (by omega), hz_turn hn hx h1 h2 h3 rfl rfl e1' (fun hb => zb_pos hb (fun k => absurd k (by omega)) (fun k => ⟨pk_in j 24 (by omega), nm_r e1' (ih _ 1 hp)⟩))⟩⟩
theorem hz_8Low {post : St2 → Prop} {pr ct sz ks wt : Int32} {a1 a2 a3 a4 a5 a6 a7 a8 a9 a10 a11 a12 a13 : Nat → Int32} {X Y : Nat → Int} {n : Nat} {sg : Nat → Nat → Nat → Nat} {nx bf : Nat → Nat} {r : Nat × Nat} (hn : n ≤ 24) (hx : hz_xy n X Y a2 a3) (hs : hz_sg n X Y sg) (hc : hz_mc n nx a10) (hd : hz_mc n bf a11) (H : r.1 < n → r.2 < n → ∀ b c, hz_mc n (hz_up nx r.1 (r.2 + 1)) b → hz_mc n (hz_up bf r.2 (r.1 + 1)) c → post (pr, ct, sz, ks, wt, a1, a2, a3, a4, a5, a6, a7, a8, a9, b, c, a12, a13)) : ∀ N i j mv, hz_b8l sg 2 nx bf n N i j mv = some r → wX_bridgeLow_8 post pr ct sz ks wt a1 a2 a3 a4 a5 a6 a7 a8 a9 a10 a11 a12 a13 N (nI i) (nI j) (nI mv) := by
  intro N
  induction N with
  | zero => intro i j mv hp; exact absurd hp (by simp [hz_b8l])
  | succ N ih =>
    intro i j mv hp
    rw [hz_b8l] at hp
    obtain ⟨hv, hp⟩ := hz_gE hp
    have hv := of_decide_eq_true hv
    refine pk_eq mv 0 (fun e => ?_) (fun e => ⟨25, ?_⟩)
    · rw [if_pos e] at hp
      obtain ⟨hi, hp⟩ := hz_gE hp
      obtain ⟨hi, hj⟩ := of_decide_eq_true hi
      have hr := Option.some.inj hp
      subst hr
      refine ⟨pk_in i 24 (by omega), nm_e ⟨pk_in j 24 (by omega), nm_e (H hi hj _ _ ?_ ?_)⟩⟩
      · rw [nI_clamp (by omega), hz_b8 j (by omega)]
        exact hz_mcU hc (hz_ES j).symm
      · rw [nI_clamp (by omega), hz_b8 i (by omega)]
        exact hz_mcU hd (hz_ES i).symm
    · rw [if_neg e] at hp
      obtain ⟨q, hq, hp⟩ := hz_bE hp
      obtain ⟨p, hq2, hp⟩ := hz_bE hp
      exact hz_16Low hn hx hs hc ⟨25, hz_58Low hn hx hs hd (ih _ _ _ hp) 25 i q.2 hq2⟩ 25 j 0 hq
theorem hz_brLow {post : St2 → Prop} {pr ct sz ks wt : Int32} {a1 a2 a3 a4 a5 a6 a7 a8 a9 a10 a11 a12 a13 : Nat → Int32} {X Y : Nat → Int} {n i j : Nat} {p0 p1 : Int32} {sg : Nat → Nat → Nat → Nat} {nx bf : Nat → Nat} {r : Nat × Nat} (hn : n ≤ 24) (hx : hz_xy n X Y a2 a3) (hs : hz_sg n X Y sg) (hp : hz_b8l sg 2 nx bf n 25 i j 1 = some r) (hc : hz_mc n nx a10) (hd : hz_mc n bf a11) (e0 : p0 = nI i) (e1 : p1 = nI j) (H : r.1 < n → r.2 < n → ∀ b c, hz_mc n (hz_up nx r.1 (r.2 + 1)) b → hz_mc n (hz_up bf r.2 (r.1 + 1)) c → post (pr, ct, sz, ks, wt, a1, a2, a3, a4, a5, a6, a7, a8, a9, b, c, a12, a13)) : wpX_bridgeLow post (pr, ct, sz, ks, wt, a1, a2, a3, a4, a5, a6, a7, a8, a9, a10, a11, a12, a13) p0 p1 := by
  subst e0 e1
  exact ⟨25, hz_8Low hn hx hs hc hd H 25 i j 1 hp⟩
theorem hz_58High {post : St2 → Prop} {J8 : Int32 → Int32 → Int32 → Prop} {pr ct sz ks wt : Int32} {a1 a2 a3 a4 a5 a6 a7 a8 a9 a10 a11 a12 a13 : Nat → Int32} {X Y : Nat → Int} {n j : Nat} {sg : Nat → Nat → Nat → Nat} {bf : Nat → Nat} {r : Nat × Nat} (hn : n ≤ 24) (hx : hz_xy n X Y a2 a3) (hs : hz_sg n X Y sg) (hc : hz_mc n bf a13) (H : J8 (nI r.1) (nI j) (nI r.2)) : ∀ N i mv, hz_b58 sg 0 bf n j N i mv = some r → wX_bridgeHigh_58 post J8 (nI j) pr ct sz ks wt a1 a2 a3 a4 a5 a6 a7 a8 a9 a10 a11 a12 a13 N (nI i) (nI mv) := by
  intro N
  induction N with
  | zero => intro i mv hp; exact absurd hp (by simp [hz_b58])
  | succ N ih =>
    intro i mv hp
    rw [hz_b58] at hp
    obtain ⟨hi, hp⟩ := hz_gE hp
    have hi := of_decide_eq_true hi
    have e1 : a13 (nI i).toNatClampNeg = hz_E (bf i) := by
      rw [nI_clamp (by omega)]
      exact hc i hi
    by_cases e : bf i = 0
    · rw [if_pos e] at hp
      have hr := Option.some.inj hp
      subst hr
      exact ⟨pk_in i 24 (by omega), br_t (by rw [e1, e]; decide) H⟩
    · rw [if_neg e] at hp
      have e1' : a13 (nI i).toNatClampNeg = nI (bf i - 1) := e1.trans (hz_Ep e)
      by_cases t : sg (bf i - 1) i j = 0
      · rw [if_pos t] at hp
        have hr := Option.some.inj hp
        subst hr
        obtain ⟨h1, h2, h3, h4⟩ := hz_stHigh hs t
        exact ⟨pk_in i 24 (by omega), br_f (by rw [e1']; exact nI_pos (by omega)) ⟨pk_in i 24 (by omega), hz_turn hn hx h1 h2 h3 e1' rfl rfl (fun hb => zb_neg hb (fun k => H) (fun k => absurd k (by omega)))⟩⟩
      · rw [if_neg t] at hp
        obtain ⟨t2, hp⟩ := hz_gE hp
        obtain ⟨h1, h2, h3, h4⟩ := hz_mvHigh hs t (of_decide_eq_true t2)
        exact ⟨pk_in i 24 (by omega), br_f (by rw [e1']; exact nI_pos (by omega)) ⟨pk_in i 24 (by omega), hz_turn hn hx h1 h2 h3 e1' rfl rfl (fun hb => zb_neg hb (fun k => absurd k (by omega)) (fun k => ⟨pk_in i 24 (by omega), nm_r e1' (ih _ 1 hp)⟩))⟩⟩
theorem hz_16High {post : St2 → Prop} {J8 : Int32 → Int32 → Int32 → Prop} {pr ct sz ks wt : Int32} {a1 a2 a3 a4 a5 a6 a7 a8 a9 a10 a11 a12 a13 : Nat → Int32} {X Y : Nat → Int} {n i : Nat} {sg : Nat → Nat → Nat → Nat} {nx : Nat → Nat} {r : Nat × Nat} (hn : n ≤ 24) (hx : hz_xy n X Y a2 a3) (hs : hz_sg n X Y sg) (hc : hz_mc n nx a12) (H : ∃ fu, wX_bridgeHigh_58 post J8 (nI r.1) pr ct sz ks wt a1 a2 a3 a4 a5 a6 a7 a8 a9 a10 a11 a12 a13 fu (nI i) (nI r.2)) : ∀ N j mv, hz_b16 sg 0 nx n i N j mv = some r → wX_bridgeHigh_16 post J8 (nI i) pr ct sz ks wt a1 a2 a3 a4 a5 a6 a7 a8 a9 a10 a11 a12 a13 N (nI j) (nI mv) := by
  intro N
  induction N with
  | zero => intro j mv hp; exact absurd hp (by simp [hz_b16])
  | succ N ih =>
    intro j mv hp
    rw [hz_b16] at hp
    obtain ⟨hi, hp⟩ := hz_gE hp
    have hi := of_decide_eq_true hi
    have e1 : a12 (nI j).toNatClampNeg = hz_E (nx j) := by
      rw [nI_clamp (by omega)]
      exact hc j hi
    by_cases e : nx j = 0
    · rw [if_pos e] at hp
      have hr := Option.some.inj hp
      subst hr
      exact ⟨pk_in j 24 (by omega), br_t (by rw [e1, e]; decide) H⟩
    · rw [if_neg e] at hp
      have e1' : a12 (nI j).toNatClampNeg = nI (nx j - 1) := e1.trans (hz_Ep e)
      by_cases t : sg i j (nx j - 1) = 0
      · rw [if_pos t] at hp
        have hr := Option.some.inj hp
        subst hr
        obtain ⟨h1, h2, h3, h4⟩ := hz_stHigh hs t
        exact ⟨pk_in j 24 (by omega), br_f (by rw [e1']; exact nI_pos (by omega)) ⟨pk_in j 24 (by omega), hz_turn hn hx h1 h2 h3 rfl rfl e1' (fun hb => zb_neg hb (fun k => H) (fun k => absurd k (by omega)))⟩⟩
      · rw [if_neg t] at hp
        obtain ⟨t2, hp⟩ := hz_gE hp
        obtain ⟨h1, h2, h3, h4⟩ := hz_mvHigh hs t (of_decide_eq_true t2)
        exact ⟨pk_in j 24 (by omega), br_f (by rw [e1']; exact nI_pos (by omega)) ⟨pk_in j 24 (by omega), hz_turn hn hx h1 h2 h3 rfl rfl e1' (fun hb => zb_neg hb (fun k => absurd k (by omega)) (fun k => ⟨pk_in j 24 (by omega), nm_r e1' (ih _ 1 hp)⟩))⟩⟩
theorem hz_8High {post : St2 → Prop} {pr ct sz ks wt : Int32} {a1 a2 a3 a4 a5 a6 a7 a8 a9 a10 a11 a12 a13 : Nat → Int32} {X Y : Nat → Int} {n : Nat} {sg : Nat → Nat → Nat → Nat} {nx bf : Nat → Nat} {r : Nat × Nat} (hn : n ≤ 24) (hx : hz_xy n X Y a2 a3) (hs : hz_sg n X Y sg) (hc : hz_mc n nx a12) (hd : hz_mc n bf a13) (H : r.1 < n → r.2 < n → ∀ b c, hz_mc n (hz_up nx r.1 (r.2 + 1)) b → hz_mc n (hz_up bf r.2 (r.1 + 1)) c → post (pr, ct, sz, ks, wt, a1, a2, a3, a4, a5, a6, a7, a8, a9, a10, a11, b, c)) : ∀ N i j mv, hz_b8l sg 0 nx bf n N i j mv = some r → wX_bridgeHigh_8 post pr ct sz ks wt a1 a2 a3 a4 a5 a6 a7 a8 a9 a10 a11 a12 a13 N (nI i) (nI j) (nI mv) := by
  intro N
  induction N with
  | zero => intro i j mv hp; exact absurd hp (by simp [hz_b8l])
  | succ N ih =>
    intro i j mv hp
    rw [hz_b8l] at hp
    obtain ⟨hv, hp⟩ := hz_gE hp
    have hv := of_decide_eq_true hv
    refine pk_eq mv 0 (fun e => ?_) (fun e => ⟨25, ?_⟩)
    · rw [if_pos e] at hp
      obtain ⟨hi, hp⟩ := hz_gE hp
      obtain ⟨hi, hj⟩ := of_decide_eq_true hi
      have hr := Option.some.inj hp
      subst hr
      refine ⟨pk_in i 24 (by omega), nm_e ⟨pk_in j 24 (by omega), nm_e (H hi hj _ _ ?_ ?_)⟩⟩
      · rw [nI_clamp (by omega), hz_b8 j (by omega)]
        exact hz_mcU hc (hz_ES j).symm
      · rw [nI_clamp (by omega), hz_b8 i (by omega)]
        exact hz_mcU hd (hz_ES i).symm
    · rw [if_neg e] at hp
      obtain ⟨q, hq, hp⟩ := hz_bE hp
      obtain ⟨p, hq2, hp⟩ := hz_bE hp
      exact hz_16High hn hx hs hc ⟨25, hz_58High hn hx hs hd (ih _ _ _ hp) 25 i q.2 hq2⟩ 25 j 0 hq
theorem hz_brHigh {post : St2 → Prop} {pr ct sz ks wt : Int32} {a1 a2 a3 a4 a5 a6 a7 a8 a9 a10 a11 a12 a13 : Nat → Int32} {X Y : Nat → Int} {n i j : Nat} {p0 p1 : Int32} {sg : Nat → Nat → Nat → Nat} {nx bf : Nat → Nat} {r : Nat × Nat} (hn : n ≤ 24) (hx : hz_xy n X Y a2 a3) (hs : hz_sg n X Y sg) (hp : hz_b8l sg 0 nx bf n 25 i j 1 = some r) (hc : hz_mc n nx a12) (hd : hz_mc n bf a13) (e0 : p0 = nI i) (e1 : p1 = nI j) (H : r.1 < n → r.2 < n → ∀ b c, hz_mc n (hz_up nx r.1 (r.2 + 1)) b → hz_mc n (hz_up bf r.2 (r.1 + 1)) c → post (pr, ct, sz, ks, wt, a1, a2, a3, a4, a5, a6, a7, a8, a9, a10, a11, b, c)) : wpX_bridgeHigh post (pr, ct, sz, ks, wt, a1, a2, a3, a4, a5, a6, a7, a8, a9, a10, a11, a12, a13) p0 p1 := by
  subst e0 e1
  exact ⟨25, hz_8High hn hx hs hc hd H 25 i j 1 hp⟩
/-- four chains -/
abbrev hz_C4 : Type := ((Nat → Nat) × (Nat → Nat)) × ((Nat → Nat) × (Nat → Nat))
def hz_m4 (n : Nat) (t : hz_C4) (b10 b11 b12 b13 : Nat → Int32) : Prop := hz_mc n t.1.1 b10 ∧ hz_mc n t.1.2 b11 ∧ hz_mc n t.2.1 b12 ∧ hz_mc n t.2.2 b13
def hz_m16 (sg : Nat → Nat → Nat → Nat) (n w : Nat) : Nat → Nat → hz_C4 → Option hz_C4
  | 0, _, _ => none
  | N + 1, f, t => if n ≤ f + w then some t else (hz_b8l sg 2 t.1.1 t.1.2 n 25 (f + w - 1) (f + w) 1).bind (fun p => (hz_b8l sg 0 t.2.1 t.2.2 n 25 (f + w - 1) (f + w) 1).bind (fun q => hz_m16 sg n w N (f + 2 * w) ((hz_up t.1.1 p.1 (p.2 + 1), hz_up t.1.2 p.2 (p.1 + 1)), (hz_up t.2.1 q.1 (q.2 + 1), hz_up t.2.2 q.2 (q.1 + 1)))))
def hz_m6 (sg : Nat → Nat → Nat → Nat) (n : Nat) : Nat → Nat → hz_C4 → Option hz_C4
  | 0, _, _ => none
  | N + 1, w, t => if n ≤ w then some t else hz_g (decide (1 ≤ w)) ((hz_m16 sg n w 25 0 t).bind (fun t' => hz_m6 sg n N (w * 2) t'))
def hz_m68 (nl : Nat → Nat) (n : Nat) : Nat → Nat → (Nat → Nat) → Nat → Option ((Nat → Nat) × Nat)
  | 0, _, _, _ => none
  | N + 1, v, h, s => if v = 0 then some (h, s) else hz_g (decide (v - 1 < n)) ((hz_end (v - 1) h s).bind (fun q => hz_m68 nl n N (nl (v - 1)) q.1 q.2))
def hz_m99 (bh : Nat → Nat) (n : Nat) : Nat → Nat → (Nat → Nat) → Nat → Option ((Nat → Nat) × Nat)
  | 0, _, _, _ => none
  | N + 1, v, h, s => if v ≤ 1 then some (h, s) else hz_g (decide (v - 1 < n)) ((hz_end (v - 1) h s).bind (fun q => hz_m99 bh n N (bh (v - 1)) q.1 q.2))
theorem hz_m99_w {post : St2 → Prop} {pr ks wt : Int32} {a1 a2 a3 a5 a6 a7 a8 a9 a10 a11 a12 a13 : Nat → Int32} {n : Nat} {bh : Nat → Nat} {r : (Nat → Nat) × Nat} (hn : n ≤ 24) (hc : hz_mc n bh a13) (H : ∀ a4, hz_mh r.2 r.1 a4 → post (pr, nI n, nI r.2, ks, wt, a1, a2, a3, a4, a5, a6, a7, a8, a9, a10, a11, a12, a13)) : ∀ N v h s a4, hz_m99 bh n N v h s = some r → hz_mh s h a4 → wX_merge_99 post N (hz_E v) pr (nI n) (nI s) ks wt a1 a2 a3 a4 a5 a6 a7 a8 a9 a10 a11 a12 a13 := by
  intro N
  induction N with
  | zero => intro v h s a4 hp _; exact absurd hp (by simp [hz_m99])
  | succ N ih =>
    intro v h s a4 hp hm
    rw [hz_m99] at hp
    by_cases e : v ≤ 1
    · rw [if_pos e] at hp
      have hr := Option.some.inj hp
      subst hr
      refine br_t ?_ (H a4 hm)
      have e' : v = 0 ∨ v = 1 := by omega
      rcases e' with e' | e' <;> (rw [e']; decide)
    · rw [if_neg e] at hp
      obtain ⟨hv, hp⟩ := hz_gE hp
      have hv := of_decide_eq_true hv
      obtain ⟨q, hq, hp⟩ := hz_bE hp
      rw [hz_Ep (by omega)]
      refine br_f (nI_nle (by omega) (by omega)) (hz_corner hq hm rfl (fun a4' hm' => ⟨pk_in (v - 1) 24 (by omega), nm_r ?_ (ih _ _ _ _ hp hm')⟩))
      rw [nI_clamp (by omega)]
      exact hc _ hv
theorem hz_m68_w {post : St2 → Prop} {pr ks wt : Int32} {a1 a2 a3 a5 a6 a7 a8 a9 a10 a11 a12 a13 : Nat → Int32} {n : Nat} {nl bh : Nat → Nat} {r : (Nat → Nat) × Nat} (hn : n ≤ 24) (h1 : 1 ≤ n) (hc : hz_mc n nl a10) (hd : hz_mc n bh a13) (H : ∀ a4, hz_mh r.2 r.1 a4 → post (pr, nI n, nI r.2, ks, wt, a1, a2, a3, a4, a5, a6, a7, a8, a9, a10, a11, a12, a13)) : ∀ N v h s a4, (hz_m68 nl n N v h s).bind (fun q => hz_m99 bh n 25 (bh (n - 1)) q.1 q.2) = some r → hz_mh s h a4 → wX_merge_68 post N (hz_E v) pr (nI n) (nI s) ks wt a1 a2 a3 a4 a5 a6 a7 a8 a9 a10 a11 a12 a13 := by
  intro N
  induction N with
  | zero => intro v h s a4 hp _; exact absurd hp (by simp [hz_m68])
  | succ N ih =>
    intro v h s a4 hp hm
    rw [hz_m68] at hp
    by_cases e : v = 0
    · rw [if_pos e] at hp
      have hp : hz_m99 bh n 25 (bh (n - 1)) h s = some r := hp
      refine br_t (by rw [e]; decide) ⟨pk_in (n - 1) 24 (by omega) (pk_sub h1), nm_r ?_ ⟨25, hz_m99_w hn hd H 25 _ _ _ _ hp hm⟩⟩
      rw [show nI n - 1 = nI (n - 1) from pk_sub h1, nI_clamp (by omega)]
      exact hd _ (by omega)
    · rw [if_neg e] at hp
      obtain ⟨q', hq', hp'⟩ := hz_bE hp
      obtain ⟨hv, hq'⟩ := hz_gE hq'
      have hv := of_decide_eq_true hv
      obtain ⟨q, hq, hq2⟩ := hz_bE hq'
      rw [hz_Ep e]
      refine br_f (nI_pos (by omega)) (hz_corner hq hm rfl (fun a4' hm' => ⟨pk_in (v - 1) 24 (by omega), nm_r ?_ (ih (nl (v - 1)) q.1 q.2 _ ?_ hm')⟩))
      · rw [nI_clamp (by omega)]
        exact hc _ hv
      · rw [hq2]
        exact hp'
theorem hz_m16_w {post : St2 → Prop} {J6 : Int32 → Int32 → Int32 → Int32 → Int32 → Int32 → (Nat → Int32) → (Nat → Int32) → (Nat → Int32) → (Nat → Int32) → (Nat → Int32) → (Nat → Int32) → (Nat → Int32) → (Nat → Int32) → (Nat → Int32) → (Nat → Int32) → (Nat → Int32) → (Nat → Int32) → (Nat → Int32) → Prop} {pr sz ks wt : Int32} {a1 a2 a3 a4 a5 a6 a7 a8 a9 : Nat → Int32} {X Y : Nat → Int} {n w : Nat} {sg : Nat → Nat → Nat → Nat} {r : hz_C4} (hn : n ≤ 24) (hw : 1 ≤ w) (hw2 : w < n) (hx : hz_xy n X Y a2 a3) (hs : hz_sg n X Y sg) (H : ∀ a10 a11 a12 a13, hz_m4 n r a10 a11 a12 a13 → J6 (nI (w * 2)) pr (nI n) sz ks wt a1 a2 a3 a4 a5 a6 a7 a8 a9 a10 a11 a12 a13) : ∀ N f t a10 a11 a12 a13, f ≤ 72 → hz_m16 sg n w N f t = some r → hz_m4 n t a10 a11 a12 a13 → wX_merge_16 post J6 (nI w) N (nI f) pr (nI n) sz ks wt a1 a2 a3 a4 a5 a6 a7 a8 a9 a10 a11 a12 a13 := by
  intro N
  induction N with
  | zero => intro f t a10 a11 a12 a13 _ hp _; exact absurd hp (by simp [hz_m16])
  | succ N ih =>
    intro f t a10 a11 a12 a13 hf hp hm
    rw [hz_m16] at hp
    refine pk_le n (f + w) (fun z => ?_) (fun z => ?_) rfl (nI_add f w)
    · rw [if_pos z] at hp
      have hr := Option.some.inj hp
      subst hr
      exact nm_r (pk_mul w 2) (H _ _ _ _ hm)
    · rw [if_neg (by omega)] at hp
      obtain ⟨p, hp1, hp⟩ := hz_bE hp
      obtain ⟨q, hp2, hp⟩ := hz_bE hp
      obtain ⟨c1, c2, c3, c4⟩ := hm
      have e0 : nI f + nI w - 1 = nI (f + w - 1) := by
        rw [nI_add]
        exact pk_sub (show 1 ≤ f + w by omega)
      refine hz_brLow hn hx hs hp1 c1 c2 e0 (nI_add f w) (fun _ _ b c d1 d2 => hz_brHigh hn hx hs hp2 c3 c4 e0 (nI_add f w) (fun _ _ b' c' d3 d4 => nm_r (show nI f + 2 * nI w = nI (f + 2 * w) from ?_) (ih _ _ _ _ _ _ (by omega) hp ⟨d1, d2, d3, d4⟩)))
      rw [show (2 : Int32) * nI w = nI (2 * w) from pk_mul 2 w, nI_add]
theorem hz_m6_w {post : St2 → Prop} {pr sz ks wt : Int32} {a1 a2 a3 a4 a5 a6 a7 a8 a9 : Nat → Int32} {X Y : Nat → Int} {n : Nat} {sg : Nat → Nat → Nat → Nat} {r : hz_C4} (hn : n ≤ 24) (hx : hz_xy n X Y a2 a3) (hs : hz_sg n X Y sg) (H : ∀ a10 a11 a12 a13, hz_m4 n r a10 a11 a12 a13 → ∃ fu, wX_merge_68 post fu 0 pr (nI n) sz ks wt a1 a2 a3 a4 a5 a6 a7 a8 a9 a10 a11 a12 a13) : ∀ N w t a10 a11 a12 a13, w ≤ 48 → hz_m6 sg n N w t = some r → hz_m4 n t a10 a11 a12 a13 → wX_merge_6 post N (nI w) pr (nI n) sz ks wt a1 a2 a3 a4 a5 a6 a7 a8 a9 a10 a11 a12 a13 := by
  intro N
  induction N with
  | zero => intro w t a10 a11 a12 a13 _ hp _; exact absurd hp (by simp [hz_m6])
  | succ N ih =>
    intro w t a10 a11 a12 a13 hf hp hm
    rw [hz_m6] at hp
    refine pk_le n w (fun z => ?_) (fun z => ?_)
    · rw [if_pos z] at hp
      have hr := Option.some.inj hp
      subst hr
      exact H _ _ _ _ hm
    · rw [if_neg (by omega)] at hp
      obtain ⟨hv, hp⟩ := hz_gE hp
      have hv := of_decide_eq_true hv
      obtain ⟨q, hq, hp⟩ := hz_bE hp
      exact ⟨25, hz_m16_w hn hv z hx hs (fun b10 b11 b12 b13 hb => ih _ _ _ _ _ _ (by omega) hp hb) 25 0 t _ _ _ _ (by omega) hq hm⟩
theorem hz_start {post : St2 → Prop} {pr sz ks wt : Int32} {a1 a2 a3 a4 a5 a6 a7 a8 a9 a10 a11 a12 a13 : Nat → Int32} {n : Nat} (hn : n ≤ 24) (H : ∀ a10 a11 a12 a13, hz_m4 n (((fun _ => 0), (fun _ => 0)), ((fun _ => 0), (fun _ => 0))) a10 a11 a12 a13 → post (pr, nI n, sz, ks, wt, a1, a2, a3, a4, a5, a6, a7, a8, a9, a10, a11, a12, a13)) : wpX_startChains post (pr, nI n, sz, ks, wt, a1, a2, a3, a4, a5, a6, a7, a8, a9, a10, a11, a12, a13) := by
  have fl : ∀ {i : Nat} {b : Nat → Int32}, (∀ j, j < i → b j = -1) → ∀ j, j < i + 1 → upd b i (-1) j = -1 := by
    intro i b hb j hj
    by_cases e : j = i
    · rw [e, pk_us]
    · rw [pk_un e]
      exact hb j (by omega)
  exact pk_loop (σ := (Nat → Int32) × (Nat → Int32) × (Nat → Int32) × (Nat → Int32)) (fun N i t => wX_startChains_2 post pr (nI n) sz ks wt N (nI i) a1 a2 a3 a4 a5 a6 a7 a8 a9 t.1 t.2.1 t.2.2.1 t.2.2.2) (fun i t => (∀ j, j < i → t.1 j = -1) ∧ (∀ j, j < i → t.2.1 j = -1) ∧ (∀ j, j < i → t.2.2.1 j = -1) ∧ (∀ j, j < i → t.2.2.2 j = -1)) n 0 (a10, a11, a12, a13) (by omega)
    ⟨fun j hj => absurd hj (by omega), fun j hj => absurd hj (by omega), fun j hj => absurd hj (by omega), fun j hj => absurd hj (by omega)⟩
    (fun N t h => pk_le n n (fun _ => H _ _ _ _ ⟨fun j hj => h.1 j hj, fun j hj => h.2.1 j hj, fun j hj => h.2.2.1 j hj, fun j hj => h.2.2.2 j hj⟩) (fun z => absurd z (by omega)))
    (fun N i t hi h hw => pk_le n i (fun z => absurd z (by omega)) (fun _ => ⟨pk_in i 24 (by omega), nm_e ⟨pk_in i 24 (by omega), nm_e ⟨pk_in i 24 (by omega), nm_e ⟨pk_in i 24 (by omega), nm_e (nm_r (nI_1 i) (by
      rw [nI_clamp (show i < 2 ^ 31 by omega)]
      exact hw (upd t.1 i (-1), upd t.2.1 i (-1), upd t.2.2.1 i (-1), upd t.2.2.2 i (-1)) ⟨fl h.1, fl h.2.1, fl h.2.2.1, fl h.2.2.2⟩))⟩⟩⟩⟩))
def hz_merge (sg : Nat → Nat → Nat → Nat) (n : Nat) : Option ((Nat → Nat) × Nat) := (hz_m6 sg n 25 1 (((fun _ => 0), (fun _ => 0)), ((fun _ => 0), (fun _ => 0)))).bind (fun t => (hz_m68 t.1.1 n 25 1 (fun _ => 0) 0).bind (fun q => hz_m99 t.2.2 n 25 (t.2.2 (n - 1)) q.1 q.2))
theorem hz_merge_w {post : St2 → Prop} {pr ks wt : Int32} {a1 a2 a3 a4 a5 a6 a7 a8 a9 a10 a11 a12 a13 : Nat → Int32} {X Y : Nat → Int} {n : Nat} {sg : Nat → Nat → Nat → Nat} {r : (Nat → Nat) × Nat} (hn : n ≤ 24) (h2 : 2 ≤ n) (hx : hz_xy n X Y a2 a3) (hs : hz_sg n X Y sg) (hp : hz_merge sg n = some r) (H : ∀ a4 a10 a11 a12 a13, hz_mh r.2 r.1 a4 → post (pr, nI n, nI r.2, ks, wt, a1, a2, a3, a4, a5, a6, a7, a8, a9, a10, a11, a12, a13)) : wpX_merge post (pr, nI n, 0, ks, wt, a1, a2, a3, a4, a5, a6, a7, a8, a9, a10, a11, a12, a13) := by
  obtain ⟨t, ht, hp⟩ := hz_bE hp
  unfold wpX_merge
  exact hz_start hn (fun b10 b11 b12 b13 hb => ⟨25, hz_m6_w hn hx hs (fun c10 c11 c12 c13 hc => ⟨25, hz_m68_w hn (by omega) hc.1 hc.2.2.2 (fun a4' hm => H _ _ _ _ _ hm) 25 1 _ 0 _ hp (hz_mh0 _ _)⟩) 25 1 _ _ _ _ _ (by omega) ht hb⟩)
end
section
theorem hz_rem1 {i s : Nat} (hs0 : 0 < s) (hs : s ≤ 48) (hi : i ≤ 200) : nI i + 1 - (nI i + 1) / nI s * nI s = nI ((i + 1) % s) := by
  rw [nI_1]
  exact pk_rem (by omega) hs0 (by omega)
theorem hz_side {post : Int32 → Prop} {pr ct ks wt : Int32} {a1 a2 a3 a4 a5 a6 a7 a8 a9 a10 a11 a12 a13 : Nat → Int32} {X Y : Nat → Int} {n s i p : Nat} {p0 p1 : Int32} {h : Nat → Nat} (hn : n ≤ 24) (hx : hz_xy n X Y a2 a3) (hs0 : 0 < s) (hs : s ≤ 48) (hi : i < s) (hm : hz_mh s h a4) (h1 : h i < n) (h2 : h ((i + 1) % s) < n) (h3 : p < n) (e0 : p0 = nI i) (e1 : p1 = nI p) (H : hz_B (hz_cr X Y (h i) (h ((i + 1) % s)) p) → post (hz_I (hz_cr X Y (h i) (h ((i + 1) % s)) p))) : wpX_sideAt post (pr, ct, nI s, ks, wt, a1, a2, a3, a4, a5, a6, a7, a8, a9, a10, a11, a12, a13) p0 p1 := by
  subst e0
  have hr := Nat.mod_lt (i + 1) hs0
  have er := hz_rem1 hs0 hs (show i ≤ 200 by omega)
  unfold wpX_sideAt
  refine ⟨pk_in i 48 (by omega), nI_ne0 hs0 (by omega), pk_in ((i + 1) % s) 48 (by omega) er, hz_turn hn hx h1 h2 h3 ?_ ?_ e1 H⟩
  · rw [nI_clamp (by omega)]
    exact (hm i hi).1
  · rw [er, nI_clamp (by omega)]
    exact (hm _ hr).1
/-- engine 5: is p outside -/
def hz_o4 (sg : Nat → Nat → Nat → Nat) (h : Nat → Nat) (s p : Nat) : Nat → Nat → Nat → Option Nat
  | 0, _, _ => none
  | N + 1, f, i => if s ≤ i then some f else if f = 0 then hz_3 (sg (h i) (h ((i + 1) % s)) p) (hz_o4 sg h s p N 1 (i + 1)) (hz_o4 sg h s p N 0 (i + 1)) (hz_o4 sg h s p N 0 (i + 1)) else hz_o4 sg h s p N 1 (i + 1)
/-- engine 5: the first edge that p sees -/
def hz_f44 (sg : Nat → Nat → Nat → Nat) (h : Nat → Nat) (s p : Nat) : Nat → Nat → Option Nat
  | 0, _ => none
  | N + 1, f => hz_g (decide (f < s)) (hz_3 (sg (h f) (h ((f + 1) % s)) p)
      (hz_3 (sg (h ((f + s - 1) % s)) (h (((f + s - 1) % s + 1) % s)) p) (hz_f44 sg h s p N ((f + 1) % s)) (hz_f44 sg h s p N ((f + 1) % s)) (some f))
      (hz_3 (sg (h ((f + s - 1) % s)) (h (((f + s - 1) % s + 1) % s)) p) (hz_f44 sg h s p N ((f + 1) % s)) (hz_f44 sg h s p N ((f + 1) % s)) (some f))
      (hz_f44 sg h s p N ((f + 1) % s)))
/-- engine 5: the first edge behind it that p doesn't see -/
def hz_l89 (sg : Nat → Nat → Nat → Nat) (h : Nat → Nat) (s p : Nat) : Nat → Nat → Option Nat
  | 0, _ => none
  | N + 1, l => hz_g (decide (l < s)) (hz_3 (sg (h l) (h ((l + 1) % s)) p) (hz_l89 sg h s p N ((l + 1) % s)) (hz_l89 sg h s p N ((l + 1) % s)) (some l))
/-- engine 5: what is kept -/
def hz_k122 (h : Nat → Nat) (s p f : Nat) : Nat → Nat → (Nat → Nat) → Nat → Option ((Nat → Nat) × Nat)
  | 0, _, _, _ => none
  | N + 1, i, k, c => if i = f then hz_g (decide (f < s ∧ c + 1 < 48 ∧ p < 128)) (some (hz_up (hz_up k c (h f)) (c + 1) p, c + 2)) else hz_g (decide (i < s ∧ c < 48)) (hz_k122 h s p f N ((i + 1) % s) (hz_up k c (h i)) (c + 1))
theorem hz_209 {post : St2 → Prop} {pr ct ks wt : Int32} {a1 a2 a3 a4 a5 a6 a7 a8 a9 a10 a11 a12 a13 : Nat → Int32} {c : Nat} {k : Nat → Nat} (hc : c ≤ 48) (hk : hz_mh c k a5) (H : ∀ a4, hz_mh c k a4 → post (pr, ct, nI c, ks, wt, a1, a2, a3, a4, a5, a6, a7, a8, a9, a10, a11, a12, a13)) : ∃ fu, wX_insertMore_209 post pr ct (nI c) ks wt fu 0 a1 a2 a3 a4 a5 a6 a7 a8 a9 a10 a11 a12 a13 :=
  pk_loop (fun N i t => wX_insertMore_209 post pr ct (nI c) ks wt N (nI i) a1 a2 a3 t a5 a6 a7 a8 a9 a10 a11 a12 a13) (fun i t => hz_mh i k t) c 0 a4 (by omega) (hz_mh0 _ _)
    (fun N t h => pk_le c c (fun _ => H t h) (fun z => absurd z (by omega)))
    (fun N i t hi h hw => pk_le c i (fun z => absurd z (by omega)) (fun _ => ⟨pk_in i 48 (by omega), pk_in i 48 (by omega), nm_e (nm_r (nI_1 i) (by
      rw [nI_clamp (show i < 2 ^ 31 by omega)]
      refine hw _ (fun j hj => ?_)
      by_cases e : j = i
      · rw [e, pk_us, (hk i hi).1, hz_v8 _ (hk i hi).2]
        exact ⟨rfl, (hk i hi).2⟩
      · rw [pk_un e]
        exact h j (by omega)))⟩))
theorem hz_k122_w {post : St2 → Prop} {pr ct wt : Int32} {a1 a2 a3 a4 a6 a7 a8 a9 a10 a11 a12 a13 : Nat → Int32} {s p f : Nat} {h : Nat → Nat} {r : (Nat → Nat) × Nat} (hs0 : 0 < s) (hs : s ≤ 48) (hm : hz_mh s h a4) (hf : f < s) (H : ∀ ks a4 a5, hz_mh r.2 r.1 a4 → post (pr, ct, nI r.2, ks, wt, a1, a2, a3, a4, a5, a6, a7, a8, a9, a10, a11, a12, a13)) : ∀ N i k c a5, i < s → c ≤ 48 → hz_k122 h s p f N i k c = some r → hz_mh c k a5 → wX_insertMore_122 post (nI p) (nI f) pr ct (nI s) wt N (nI i) (nI c) a1 a2 a3 a4 a5 a6 a7 a8 a9 a10 a11 a12 a13 := by
  intro N
  induction N with
  | zero => intro i k c a5 _ _ hp _; exact absurd hp (by simp [hz_k122])
  | succ N ih =>
    intro i k c a5 hi hc hp hk
    rw [hz_k122] at hp
    refine pk_eq i f (fun e => ?_) (fun e => ?_)
    · rw [if_pos e] at hp
      obtain ⟨hv, hp⟩ := hz_gE hp
      obtain ⟨v1, v2, v3⟩ := of_decide_eq_true hv
      have hr := Option.some.inj hp
      subst hr
      refine ⟨pk_in f 48 (by omega), pk_in c 48 (by omega), nm_e ⟨pk_in (c + 1) 48 (by omega) (nI_1 c), nm_e (nm_r (nI_add c 2) (hz_209 (c := c + 2) (by omega) ?_ (fun a4' hm' => H _ _ _ hm')))⟩⟩
      rw [nI_1, nI_clamp (show f < 2 ^ 31 by omega), nI_clamp (show c < 2 ^ 31 by omega), nI_clamp (show c + 1 < 2 ^ 31 by omega), (hm f hf).1, hz_v8 _ (hm f hf).2, hz_b8 p v3]
      exact hz_mhS (hz_mhS hk rfl (hm f hf).2) rfl v3
    · rw [if_neg e] at hp
      obtain ⟨hv, hp⟩ := hz_gE hp
      obtain ⟨v1, v2⟩ := of_decide_eq_true hv
      have hr := Nat.mod_lt (i + 1) hs0
      refine ⟨pk_in i 48 (by omega), pk_in c 48 (by omega), nm_e (nm_r (nI_1 c) ⟨nI_ne0 hs0 (by omega), nm_r (hz_rem1 hs0 hs (by omega)) (ih _ _ _ _ hr (by omega) hp ?_)⟩)⟩
      rw [nI_clamp (show i < 2 ^ 31 by omega), nI_clamp (show c < 2 ^ 31 by omega), (hm i hi).1, hz_v8 _ (hm i hi).2]
      exact hz_mhS hk rfl (hm i hi).2
theorem hz_l89_w {post : St2 → Prop} {pr ct ks wt : Int32} {a1 a2 a3 a4 a5 a6 a7 a8 a9 a10 a11 a12 a13 : Nat → Int32} {X Y : Nat → Int} {n s p f : Nat} {sg : Nat → Nat → Nat → Nat} {h : Nat → Nat} {r : Nat} (hn : n ≤ 24) (hx : hz_xy n X Y a2 a3) (hg : hz_sg n X Y sg) (hs0 : 0 < s) (hs : s ≤ 48) (hm : hz_mh s h a4) (H : r < s → ∃ fu, wX_insertMore_122 post (nI p) (nI f) pr ct (nI s) wt fu (nI r) 0 a1 a2 a3 a4 a5 a6 a7 a8 a9 a10 a11 a12 a13) : ∀ N l, hz_l89 sg h s p N l = some r → wX_insertMore_89 post (nI p) (nI f) pr ct (nI s) ks wt a1 a2 a3 a4 a5 a6 a7 a8 a9 a10 a11 a12 a13 N (nI l) := by
  intro N
  induction N with
  | zero => intro l hp; exact absurd hp (by simp [hz_l89])
  | succ N ih =>
    intro l hp
    rw [hz_l89] at hp
    obtain ⟨hv, hp⟩ := hz_gE hp
    have hv := of_decide_eq_true hv
    rcases hz_3E hp with ⟨ht, hp⟩ | ⟨ht, hp⟩ | ⟨ht, hp⟩
    · obtain ⟨h1, h2, h3, h4⟩ := (hg _ _ _).1 ht
      exact hz_side hn hx hs0 hs hv hm h1 h2 h3 rfl rfl (fun hb => zb_pos hb (fun k => absurd k (by omega)) (fun k => ⟨nI_ne0 hs0 (by omega), nm_r (hz_rem1 hs0 hs (by omega)) (ih _ hp)⟩))
    · obtain ⟨h1, h2, h3, h4⟩ := (hg _ _ _).2.1 ht
      exact hz_side hn hx hs0 hs hv hm h1 h2 h3 rfl rfl (fun hb => zb_pos hb (fun k => absurd k (by omega)) (fun k => ⟨nI_ne0 hs0 (by omega), nm_r (hz_rem1 hs0 hs (by omega)) (ih _ hp)⟩))
    · obtain ⟨h1, h2, h3, h4⟩ := (hg _ _ _).2.2 ht
      have hr := Option.some.inj hp
      subst hr
      exact hz_side hn hx hs0 hs hv hm h1 h2 h3 rfl rfl (fun hb => zb_pos hb (fun k => H hv) (fun k => absurd k (by omega)))
theorem hz_74 {post : St2 → Prop} {J44 : Int32 → Prop} {pr ct ks wt : Int32} {a1 a2 a3 a4 a5 a6 a7 a8 a9 a10 a11 a12 a13 : Nat → Int32} {s f : Nat} {x1 : Int32} (hs0 : 0 < s) (hs : s ≤ 48) (hf : f < s) (H : J44 (nI ((f + 1) % s))) : wX_insertMore_74 post J44 x1 (nI f) pr ct (nI s) ks wt a1 a2 a3 a4 a5 a6 a7 a8 a9 a10 a11 a12 a13 := by
  unfold wX_insertMore_74
  exact ⟨nI_ne0 hs0 (by omega), nm_r (hz_rem1 hs0 hs (by omega)) H⟩
theorem hz_f44_w {post : St2 → Prop} {pr ct ks wt : Int32} {a1 a2 a3 a4 a5 a6 a7 a8 a9 a10 a11 a12 a13 : Nat → Int32} {X Y : Nat → Int} {n s p : Nat} {sg : Nat → Nat → Nat → Nat} {h : Nat → Nat} {r : Nat} (hn : n ≤ 24) (hx : hz_xy n X Y a2 a3) (hg : hz_sg n X Y sg) (hs0 : 0 < s) (hs : s ≤ 48) (hm : hz_mh s h a4) (H : r < s → ∃ fu, wX_insertMore_89 post (nI p) (nI r) pr ct (nI s) ks wt a1 a2 a3 a4 a5 a6 a7 a8 a9 a10 a11 a12 a13 fu (nI r)) : ∀ N f, hz_f44 sg h s p N f = some r → wX_insertMore_44 post (nI p) pr ct (nI s) ks wt a1 a2 a3 a4 a5 a6 a7 a8 a9 a10 a11 a12 a13 N (nI f) := by
  intro N
  induction N with
  | zero => intro f hp; exact absurd hp (by simp [hz_f44])
  | succ N ih =>
    intro f hp
    rw [hz_f44] at hp
    obtain ⟨hv, hp⟩ := hz_gE hp
    have hv := of_decide_eq_true hv
    have hv2 := Nat.mod_lt (f + s - 1) hs0
    have e2 : nI f + nI s - 1 - (nI f + nI s - 1) / nI s * nI s = nI ((f + s - 1) % s) := by
      rw [nI_add, show nI (f + s) - 1 = nI (f + s - 1) from pk_sub (show 1 ≤ f + s by omega)]
      exact pk_rem (by omega) hs0 (by omega)
    have sub : ∀ {t : Nat}, (t = 0 ∨ t = 1) → sg (h f) (h ((f + 1) % s)) p = t → hz_3 (sg (h ((f + s - 1) % s)) (h (((f + s - 1) % s + 1) % s)) p) (hz_f44 sg h s p N ((f + 1) % s)) (hz_f44 sg h s p N ((f + 1) % s)) (some f) = some r → wX_insertMore_44 post (nI p) pr ct (nI s) ks wt a1 a2 a3 a4 a5 a6 a7 a8 a9 a10 a11 a12 a13 (N + 1) (nI f) := by
      intro t ht0 ht hp
      have hh : h f < n ∧ h ((f + 1) % s) < n ∧ p < n ∧ hz_cr X Y (h f) (h ((f + 1) % s)) p ≤ 0 := by
        rcases ht0 with ht0 | ht0
        · obtain ⟨h1, h2, h3, h4⟩ := (hg _ _ _).1 (ht.trans ht0)
          exact ⟨h1, h2, h3, by omega⟩
        · obtain ⟨h1, h2, h3, h4⟩ := (hg _ _ _).2.1 (ht.trans ht0)
          exact ⟨h1, h2, h3, by omega⟩
      obtain ⟨h1, h2, h3, h4⟩ := hh
      refine hz_side hn hx hs0 hs hv hm h1 h2 h3 rfl rfl (fun hb => zb_pos hb (fun k => absurd k (by omega)) (fun k => ⟨nI_ne0 hs0 (by omega), ?_⟩))
      rcases hz_3E hp with ⟨ht, hp⟩ | ⟨ht, hp⟩ | ⟨ht, hp⟩
      · obtain ⟨h1, h2, h3, h4⟩ := (hg _ _ _).1 ht
        exact hz_side hn hx hs0 hs hv2 hm h1 h2 h3 e2 rfl (fun hb => zb_pos hb (fun k => absurd k (by omega)) (fun k => hz_74 hs0 hs hv (ih _ hp)))
      · obtain ⟨h1, h2, h3, h4⟩ := (hg _ _ _).2.1 ht
        exact hz_side hn hx hs0 hs hv2 hm h1 h2 h3 e2 rfl (fun hb => zb_pos hb (fun k => absurd k (by omega)) (fun k => hz_74 hs0 hs hv (ih _ hp)))
      · obtain ⟨h1, h2, h3, h4⟩ := (hg _ _ _).2.2 ht
        have hr := Option.some.inj hp
        subst hr
        exact hz_side hn hx hs0 hs hv2 hm h1 h2 h3 e2 rfl (fun hb => zb_pos hb (fun k => H hv) (fun k => absurd k (by omega)))
    rcases hz_3E hp with ⟨ht, hp⟩ | ⟨ht, hp⟩ | ⟨ht, hp⟩
    · exact sub (Or.inl rfl) ht hp
    · exact sub (Or.inr rfl) ht hp
    · obtain ⟨h1, h2, h3, h4⟩ := (hg _ _ _).2.2 ht
      exact hz_side hn hx hs0 hs hv hm h1 h2 h3 rfl rfl (fun hb => zb_pos hb (fun k => hz_74 hs0 hs hv (ih _ hp)) (fun k => absurd k (by omega)))
theorem hz_o4_w {post : St2 → Prop} {pr ct ks wt : Int32} {a1 a2 a3 a4 a5 a6 a7 a8 a9 a10 a11 a12 a13 : Nat → Int32} {X Y : Nat → Int} {n s p : Nat} {sg : Nat → Nat → Nat → Nat} {h : Nat → Nat} {r : Nat} (hn : n ≤ 24) (hx : hz_xy n X Y a2 a3) (hg : hz_sg n X Y sg) (hs0 : 0 < s) (hs : s ≤ 48) (hm : hz_mh s h a4) (H0 : r = 0 → post (pr, ct, nI s, ks, wt, a1, a2, a3, a4, a5, a6, a7, a8, a9, a10, a11, a12, a13)) (H1 : r ≠ 0 → ∃ fu, wX_insertMore_44 post (nI p) pr ct (nI s) ks wt a1 a2 a3 a4 a5 a6 a7 a8 a9 a10 a11 a12 a13 fu 0) : ∀ N f i, f < 2 → i ≤ s → hz_o4 sg h s p N f i = some r → wX_insertMore_4 post (nI p) pr ct (nI s) ks wt a1 a2 a3 a4 a5 a6 a7 a8 a9 a10 a11 a12 a13 N (nI f) (nI i) := by
  intro N
  induction N with
  | zero => intro f i _ _ hp; exact absurd hp (by simp [hz_o4])
  | succ N ih =>
    intro f i hf hi hp
    rw [hz_o4] at hp
    refine pk_le s i (fun z => pk_eq f 0 (fun e => ?_) (fun e => ?_)) (fun z => pk_eq f 0 (fun e => ?_) (fun e => ?_))
    · rw [if_pos z] at hp
      exact H0 ((Option.some.inj hp).symm.trans e)
    · rw [if_pos z] at hp
      exact H1 (fun k => e ((Option.some.inj hp).trans k))
    · rw [if_neg (by omega), if_pos e] at hp
      rcases hz_3E hp with ⟨ht, hp⟩ | ⟨ht, hp⟩ | ⟨ht, hp⟩
      · obtain ⟨h1, h2, h3, h4⟩ := (hg _ _ _).1 ht
        exact hz_side hn hx hs0 hs z hm h1 h2 h3 rfl rfl (fun hb => zb_nn hb (fun k => absurd k (by omega)) (fun k => nm_r (nI_1 i) (ih 1 _ (by omega) (by omega) hp)))
      · obtain ⟨h1, h2, h3, h4⟩ := (hg _ _ _).2.1 ht
        exact hz_side hn hx hs0 hs z hm h1 h2 h3 rfl rfl (fun hb => zb_nn hb (fun k => nm_r (nI_1 i) (ih 0 _ (by omega) (by omega) hp)) (fun k => absurd k (by omega)))
      · obtain ⟨h1, h2, h3, h4⟩ := (hg _ _ _).2.2 ht
        exact hz_side hn hx hs0 hs z hm h1 h2 h3 rfl rfl (fun hb => zb_nn hb (fun k => nm_r (nI_1 i) (ih 0 _ (by omega) (by omega) hp)) (fun k => absurd k (by omega)))
    · rw [if_neg (by omega), if_neg e] at hp
      exact nm_r (nI_1 i) (ih 1 _ (by omega) (by omega) hp)
def hz_more (sg : Nat → Nat → Nat → Nat) (h : Nat → Nat) (s p : Nat) : Option ((Nat → Nat) × Nat) := (hz_o4 sg h s p 49 0 0).bind (fun f => if f = 0 then some (h, s) else (hz_f44 sg h s p 49 0).bind (fun f => (hz_l89 sg h s p 49 f).bind (fun l => hz_k122 h s p f 49 l (fun _ => 0) 0)))
theorem hz_more_w {post : St2 → Prop} {pr ct ks wt : Int32} {a1 a2 a3 a4 a5 a6 a7 a8 a9 a10 a11 a12 a13 : Nat → Int32} {X Y : Nat → Int} {n s p : Nat} {p0 : Int32} {sg : Nat → Nat → Nat → Nat} {h : Nat → Nat} {r : (Nat → Nat) × Nat} (hn : n ≤ 24) (hx : hz_xy n X Y a2 a3) (hg : hz_sg n X Y sg) (hs0 : 0 < s) (hs : s ≤ 48) (hm : hz_mh s h a4) (hp : hz_more sg h s p = some r) (e0 : p0 = nI p) (H : ∀ ks a4 a5, hz_mh r.2 r.1 a4 → post (pr, ct, nI r.2, ks, wt, a1, a2, a3, a4, a5, a6, a7, a8, a9, a10, a11, a12, a13)) : wpX_insertMore post (pr, ct, nI s, ks, wt, a1, a2, a3, a4, a5, a6, a7, a8, a9, a10, a11, a12, a13) p0 := by
  subst e0
  obtain ⟨f, hf, hp⟩ := hz_bE hp
  refine ⟨49, hz_o4_w hn hx hg hs0 hs hm (fun e => ?_) (fun e => ?_) 49 0 0 (by omega) (by omega) hf⟩
  · have hp : (if f = 0 then some (h, s) else _) = some r := hp
    rw [if_pos e] at hp
    have hr := Option.some.inj hp
    subst hr
    exact H _ _ _ hm
  · have hp : (if f = 0 then some (h, s) else _) = some r := hp
    rw [if_neg e] at hp
    obtain ⟨f1, hf1, hp⟩ := hz_bE hp
    obtain ⟨l, hl, hp⟩ := hz_bE hp
    exact ⟨49, hz_f44_w hn hx hg hs0 hs hm (fun v1 => ⟨49, hz_l89_w hn hx hg hs0 hs hm (fun v2 => ⟨49, hz_k122_w hs0 hs hm v1 H 49 l _ 0 _ v2 (by omega) hp (hz_mh0 _ _)⟩) 49 f1 hl⟩) 49 0 hf1⟩
/-- engine 5: the third one -/
def hz_third (sg : Nat → Nat → Nat → Nat) (sq : Nat → Nat → Nat → Nat → Nat) (h : Nat → Nat) (p : Nat) : Option ((Nat → Nat) × Nat) := hz_3 (sg (h 0) (h 1) p) (hz_end (h 1) (hz_up h 1 p) 2) (hz_2 (sq (h 0) p (h 0) (h 1)) (hz_2 (sq (h 1) p (h 0) (h 1)) (some (h, 2)) (some (hz_up h 0 p, 2))) (hz_2 (sq (h 0) p (h 1) p) (hz_2 (sq (h 1) p (h 0) (h 1)) (some (h, 2)) (some (hz_up h 0 p, 2))) (some (hz_up h 1 p, 2)))) (hz_end p h 2)
theorem hz_98 {post : St2 → Prop} {pr ct ks wt : Int32} {a1 a2 a3 a4 a5 a6 a7 a8 a9 a10 a11 a12 a13 : Nat → Int32} {X Y : Nat → Int} {n p : Nat} {sq : Nat → Nat → Nat → Nat → Nat} {h : Nat → Nat} {r : (Nat → Nat) × Nat} (hn : n ≤ 24) (hx : hz_xy n X Y a2 a3) (hq : hz_sq n X Y sq) (hm : hz_mh 2 h a4) (h1 : h 0 < n) (h2 : h 1 < n) (h3 : p < n) (hp : hz_2 (sq (h 1) p (h 0) (h 1)) (some (h, 2)) (some (hz_up h 0 p, 2)) = some r) (H : ∀ a4, hz_mh r.2 r.1 a4 → post (pr, ct, nI r.2, ks, wt, a1, a2, a3, a4, a5, a6, a7, a8, a9, a10, a11, a12, a13)) : wX_insertThird_98 post (nI p) (nI (h 0)) (nI (h 1)) pr ct (nI 2) ks wt a1 a2 a3 a4 a5 a6 a7 a8 a9 a10 a11 a12 a13 := by
  unfold wX_insertThird_98
  rcases hz_2E hp with ⟨hu, hp⟩ | ⟨hu, hp⟩
  · obtain ⟨_, _, _, _, h5⟩ := (hq _ _ _ _).1 hu
    have hr := Option.some.inj hp
    subst hr
    exact hz_square hn hx h2 h3 rfl rfl (fun b1 => hz_square hn hx h1 h2 rfl rfl (fun b2 => zb_le b1 b2 (fun _ => H _ hm) (fun k => absurd k (by omega))))
  · obtain ⟨_, _, _, _, h5⟩ := (hq _ _ _ _).2 hu
    have hr := Option.some.inj hp
    subst hr
    refine hz_square hn hx h2 h3 rfl rfl (fun b1 => hz_square hn hx h1 h2 rfl rfl (fun b2 => zb_le b1 b2 (fun k => absurd k (by omega)) (fun _ => nm_e (H _ ?_))))
    exact hz_mhU hm (hz_b8 p (by omega)) (by omega)
theorem hz_third_w {post : St2 → Prop} {pr ct ks wt : Int32} {a1 a2 a3 a4 a5 a6 a7 a8 a9 a10 a11 a12 a13 : Nat → Int32} {X Y : Nat → Int} {n p : Nat} {p0 : Int32} {sg : Nat → Nat → Nat → Nat} {sq : Nat → Nat → Nat → Nat → Nat} {h : Nat → Nat} {r : (Nat → Nat) × Nat} (hn : n ≤ 24) (hx : hz_xy n X Y a2 a3) (hg : hz_sg n X Y sg) (hq : hz_sq n X Y sq) (hm : hz_mh 2 h a4) (hp : hz_third sg sq h p = some r) (e0 : p0 = nI p) (H : ∀ a4, hz_mh r.2 r.1 a4 → post (pr, ct, nI r.2, ks, wt, a1, a2, a3, a4, a5, a6, a7, a8, a9, a10, a11, a12, a13)) : wpX_insertThird post (pr, ct, nI 2, ks, wt, a1, a2, a3, a4, a5, a6, a7, a8, a9, a10, a11, a12, a13) p0 := by
  subst e0
  have e1 := (hm 0 (by omega)).1
  have e2 := (hm 1 (by omega)).1
  unfold wpX_insertThird
  refine nm_r e1 (nm_r e2 ?_)
  rcases hz_3E hp with ⟨ht, hp⟩ | ⟨ht, hp⟩ | ⟨ht, hp⟩
  · obtain ⟨h1, h2, h3, h4⟩ := (hg _ _ _).1 ht
    refine hz_turn hn hx h1 h2 h3 rfl rfl rfl (fun hb => zb_np hb (fun _ => zb_nn hb (fun k => absurd k (by omega)) (fun _ => nm_e (hz_corner hp ?_ rfl H))) (fun k => absurd k (by omega)))
    exact hz_mhU hm (hz_b8 p (by omega)) (by omega)
  · obtain ⟨h1, h2, h3, h4⟩ := (hg _ _ _).2.1 ht
    refine hz_turn hn hx h1 h2 h3 rfl rfl rfl (fun hb => zb_np hb (fun _ => zb_nn hb (fun k => hz_square hn hx h1 h3 rfl rfl (fun b1 => hz_square hn hx h1 h2 rfl rfl (fun b2 => ?_))) (fun k => absurd k (by omega))) (fun k => absurd k (by omega)))
    rcases hz_2E hp with ⟨hu, hp⟩ | ⟨hu, hp⟩
    · obtain ⟨_, _, _, _, h5⟩ := (hq _ _ _ _).1 hu
      exact zb_le b1 b2 (fun _ => hz_98 hn hx hq hm h1 h2 h3 hp H) (fun k => absurd k (by omega))
    · obtain ⟨_, _, _, _, h5⟩ := (hq _ _ _ _).2 hu
      refine zb_le b1 b2 (fun k => absurd k (by omega)) (fun _ => hz_square hn hx h1 h3 rfl rfl (fun b1 => hz_square hn hx h2 h3 rfl rfl (fun b2 => ?_)))
      rcases hz_2E hp with ⟨hu, hp⟩ | ⟨hu, hp⟩
      · obtain ⟨_, _, _, _, h5⟩ := (hq _ _ _ _).1 hu
        exact zb_le b1 b2 (fun _ => hz_98 hn hx hq hm h1 h2 h3 hp H) (fun k => absurd k (by omega))
      · obtain ⟨_, _, _, _, h5⟩ := (hq _ _ _ _).2 hu
        have hr := Option.some.inj hp
        subst hr
        refine zb_le b1 b2 (fun k => absurd k (by omega)) (fun _ => nm_e (H _ ?_))
        exact hz_mhU hm (hz_b8 p (by omega)) (by omega)
  · obtain ⟨h1, h2, h3, h4⟩ := (hg _ _ _).2.2 ht
    exact hz_turn hn hx h1 h2 h3 rfl rfl rfl (fun hb => zb_np hb (fun k => absurd k (by omega)) (fun k => hz_corner hp hm rfl H))
def hz_insP (sg : Nat → Nat → Nat → Nat) (sq : Nat → Nat → Nat → Nat → Nat) (h : Nat → Nat) (s p : Nat) : Option ((Nat → Nat) × Nat) := hz_g (decide (s ≤ 48)) (if s < 2 then hz_end p h s else if s = 2 then hz_third sg sq h p else hz_more sg h s p)
theorem hz_insP_w {post : St2 → Prop} {pr ct ks wt : Int32} {a1 a2 a3 a4 a5 a6 a7 a8 a9 a10 a11 a12 a13 : Nat → Int32} {X Y : Nat → Int} {n s p : Nat} {p0 : Int32} {sg : Nat → Nat → Nat → Nat} {sq : Nat → Nat → Nat → Nat → Nat} {h : Nat → Nat} {r : (Nat → Nat) × Nat} (hn : n ≤ 24) (hx : hz_xy n X Y a2 a3) (hg : hz_sg n X Y sg) (hq : hz_sq n X Y sq) (hm : hz_mh s h a4) (hp : hz_insP sg sq h s p = some r) (e0 : p0 = nI p) (H : ∀ ks a4 a5, hz_mh r.2 r.1 a4 → post (pr, ct, nI r.2, ks, wt, a1, a2, a3, a4, a5, a6, a7, a8, a9, a10, a11, a12, a13)) : wpX_insert post (pr, ct, nI s, ks, wt, a1, a2, a3, a4, a5, a6, a7, a8, a9, a10, a11, a12, a13) p0 := by
  obtain ⟨hs, hp⟩ := hz_gE hp
  have hs := of_decide_eq_true hs
  unfold wpX_insert
  refine pk_le 2 s (fun z => pk_eq s 2 (fun e => ?_) (fun e => ?_)) (fun z => ?_)
  · rw [if_neg (by omega), if_pos e] at hp
    subst e
    exact hz_third_w hn hx hg hq hm hp e0 (fun a4' hm' => H _ _ _ hm')
  · rw [if_neg (by omega), if_neg e] at hp
    exact hz_more_w hn hx hg (by omega) hs hm hp e0 H
  · rw [if_pos z] at hp
    exact hz_corner hp hm e0 (fun a4' hm' => H _ _ _ hm')
/-- the corner with the least number -/
def hz_tf (h : Nat → Nat) (s : Nat) : Nat → Nat → Nat → Option Nat
  | 0, _, _ => none
  | N + 1, f, i => if s ≤ i then some f else if h f ≤ h i then hz_tf h s N f (i + 1) else hz_tf h s N i (i + 1)
theorem hz_76 {post : St2 → Prop} {pr ct ks wt : Int32} {a1 a2 a3 a4 a5 a6 a7 a8 a9 a10 a11 a12 a13 : Nat → Int32} {c : Nat} {k : Nat → Nat} (hc : c ≤ 48) (hk : hz_mh c k a5) (H : ∀ a4, hz_mh c k a4 → post (pr, ct, nI c, ks, wt, a1, a2, a3, a4, a5, a6, a7, a8, a9, a10, a11, a12, a13)) : ∃ fu, wX_turnToFirst_76 post pr ct (nI c) ks wt fu 0 a1 a2 a3 a4 a5 a6 a7 a8 a9 a10 a11 a12 a13 :=
  pk_loop (fun N i t => wX_turnToFirst_76 post pr ct (nI c) ks wt N (nI i) a1 a2 a3 t a5 a6 a7 a8 a9 a10 a11 a12 a13) (fun i t => hz_mh i k t) c 0 a4 (by omega) (hz_mh0 _ _)
    (fun N t h => pk_le c c (fun _ => H t h) (fun z => absurd z (by omega)))
    (fun N i t hi h hw => pk_le c i (fun z => absurd z (by omega)) (fun _ => ⟨pk_in i 48 (by omega), pk_in i 48 (by omega), nm_e (nm_r (nI_1 i) (by
      rw [nI_clamp (show i < 2 ^ 31 by omega)]
      refine hw _ (fun j hj => ?_)
      by_cases e : j = i
      · rw [e, pk_us, (hk i hi).1, hz_v8 _ (hk i hi).2]
        exact ⟨rfl, (hk i hi).2⟩
      · rw [pk_un e]
        exact h j (by omega)))⟩))
theorem hz_41 {post : St2 → Prop} {pr ct ks wt : Int32} {a1 a2 a3 a4 a5 a6 a7 a8 a9 a10 a11 a12 a13 : Nat → Int32} {s f : Nat} {h : Nat → Nat} (hs0 : 0 < s) (hs : s ≤ 48) (hf : f < s) (hm : hz_mh s h a4) (H : ∀ a4 a5, hz_mh s (fun j => h ((f + j) % s)) a4 → post (pr, ct, nI s, ks, wt, a1, a2, a3, a4, a5, a6, a7, a8, a9, a10, a11, a12, a13)) : ∃ fu, wX_turnToFirst_41 post (nI f) pr ct (nI s) ks wt fu 0 a1 a2 a3 a4 a5 a6 a7 a8 a9 a10 a11 a12 a13 :=
  pk_loop (fun N i t => wX_turnToFirst_41 post (nI f) pr ct (nI s) ks wt N (nI i) a1 a2 a3 a4 t a6 a7 a8 a9 a10 a11 a12 a13) (fun i t => hz_mh i (fun j => h ((f + j) % s)) t) s 0 a5 (by omega) (hz_mh0 _ _)
    (fun N t h => pk_le s s (fun _ => hz_76 hs h (fun a4' hm' => H _ _ hm')) (fun z => absurd z (by omega)))
    (fun N i t hi h hw => pk_le s i (fun z => absurd z (by omega)) (fun _ => by
      have er : nI f + nI i - (nI f + nI i) / nI s * nI s = nI ((f + i) % s) := by
        rw [nI_add]
        exact pk_rem (by omega) hs0 (by omega)
      have hr := Nat.mod_lt (f + i) hs0
      refine ⟨nI_ne0 hs0 (by omega), pk_in ((f + i) % s) 48 (by omega) er, pk_in i 48 (by omega), nm_e (nm_r (nI_1 i) ?_)⟩
      rw [er, nI_clamp (show i < 2 ^ 31 by omega), nI_clamp (show (f + i) % s < 2 ^ 31 by omega), (hm _ hr).1, hz_v8 _ (hm _ hr).2]
      refine hw _ (fun j hj => ?_)
      by_cases e : j = i
      · rw [e, pk_us]
        exact ⟨rfl, (hm _ hr).2⟩
      · rw [pk_un e]
        exact h j (by omega)))
theorem hz_tf_w {post : St2 → Prop} {pr ct ks wt : Int32} {a1 a2 a3 a4 a5 a6 a7 a8 a9 a10 a11 a12 a13 : Nat → Int32} {s : Nat} {h : Nat → Nat} {r : Nat} (hs0 : 0 < s) (hs : s ≤ 48) (hm : hz_mh s h a4) (H : r < s → ∃ fu, wX_turnToFirst_41 post (nI r) pr ct (nI s) ks wt fu 0 a1 a2 a3 a4 a5 a6 a7 a8 a9 a10 a11 a12 a13) : ∀ N f i, f < s → i ≤ s → hz_tf h s N f i = some r → wX_turnToFirst_4 post pr ct (nI s) ks wt a1 a2 a3 a4 a5 a6 a7 a8 a9 a10 a11 a12 a13 N (nI f) (nI i) := by
  intro N
  induction N with
  | zero => intro f i _ _ hp; exact absurd hp (by simp [hz_tf])
  | succ N ih =>
    intro f i hf hi hp
    rw [hz_tf] at hp
    refine pk_le s i (fun z => ?_) (fun z => ⟨pk_in i 48 (by omega), pk_in f 48 (by omega), ?_⟩)
    · rw [if_pos z] at hp
      have hr := Option.some.inj hp
      subst hr
      exact H hf
    · rw [if_neg (by omega)] at hp
      obtain ⟨f1, f2⟩ := hm f hf
      obtain ⟨i1, i2⟩ := hm i z
      refine pk_le (h f) (h i) (fun k => ?_) (fun k => ?_) (by rw [nI_clamp (by omega)]; exact f1) (by rw [nI_clamp (by omega)]; exact i1)
      · rw [if_pos k] at hp
        exact nm_r (nI_1 i) (ih _ _ hf (by omega) hp)
      · rw [if_neg (by omega)] at hp
        exact nm_r (nI_1 i) (ih _ _ z (by omega) hp)
def hz_ttf (h : Nat → Nat) (s : Nat) : Option ((Nat → Nat) × Nat) := hz_g (decide (0 < s ∧ s ≤ 48)) ((hz_tf h s 49 0 0).bind (fun f => some (fun j => h ((f + j) % s), s)))
def hz_ia (sg : Nat → Nat → Nat → Nat) (sq : Nat → Nat → Nat → Nat → Nat) (n : Nat) : Nat → Nat → (Nat → Nat) → Nat → Option ((Nat → Nat) × Nat)
  | 0, _, _, _ => none
  | N + 1, k, h, s => if n ≤ k then hz_ttf h s else (hz_insP sg sq h s ((k + n / 2) % n)).bind (fun q => hz_ia sg sq n N (k + 1) q.1 q.2)
theorem hz_ia_w {post : St2 → Prop} {pr wt : Int32} {a1 a2 a3 a6 a7 a8 a9 a10 a11 a12 a13 : Nat → Int32} {X Y : Nat → Int} {n : Nat} {sg : Nat → Nat → Nat → Nat} {sq : Nat → Nat → Nat → Nat → Nat} {r : (Nat → Nat) × Nat} (hn : n ≤ 24) (h2 : 2 ≤ n) (hx : hz_xy n X Y a2 a3) (hg : hz_sg n X Y sg) (hq : hz_sq n X Y sq) (H : ∀ ks a4 a5, hz_mh r.2 r.1 a4 → post (pr, nI n, nI r.2, ks, wt, a1, a2, a3, a4, a5, a6, a7, a8, a9, a10, a11, a12, a13)) : ∀ N k h s ks a4 a5, k ≤ n → hz_ia sg sq n N k h s = some r → hz_mh s h a4 → wX_insertAll_2 post N (nI k) pr (nI n) (nI s) ks wt a1 a2 a3 a4 a5 a6 a7 a8 a9 a10 a11 a12 a13 := by
  intro N
  induction N with
  | zero => intro k h s ks a4 a5 _ hp _; exact absurd hp (by simp [hz_ia])
  | succ N ih =>
    intro k h s ks a4 a5 hk hp hm
    rw [hz_ia] at hp
    refine pk_le n k (fun z => ?_) (fun z => ⟨by decide, nI_ne0 (by omega) (by omega), ?_⟩)
    · rw [if_pos z] at hp
      obtain ⟨hv, hp⟩ := hz_gE hp
      obtain ⟨hs0, hs⟩ := of_decide_eq_true hv
      obtain ⟨f, hf, hp⟩ := hz_bE hp
      have hr := Option.some.inj hp
      subst hr
      exact ⟨49, hz_tf_w hs0 hs hm (fun v => hz_41 hs0 hs v hm (fun a4' a5' hm' => H _ _ _ hm')) 49 0 0 hs0 (by omega) hf⟩
    · rw [if_neg (by omega)] at hp
      obtain ⟨q, hq1, hp⟩ := hz_bE hp
      have e : nI k + nI n / 2 - (nI k + nI n / 2) / nI n * nI n = nI ((k + n / 2) % n) := by
        rw [show nI n / 2 = nI (n / 2) from pk_div (d := 2) (by omega) (by decide) (by decide), nI_add]
        exact pk_rem (by omega) (by omega) (by omega)
      exact nm_r e (hz_insP_w hn hx hg hq hm hq1 rfl (fun ks' a4' a5' hm' => nm_r (nI_1 k) (ih _ _ _ _ _ _ (by omega) hp hm')))
def hz_insall (sg : Nat → Nat → Nat → Nat) (sq : Nat → Nat → Nat → Nat → Nat) (n : Nat) : Option ((Nat → Nat) × Nat) := hz_ia sg sq n 25 0 (fun _ => 0) 0
theorem hz_insall_w {post : St2 → Prop} {pr ks wt : Int32} {a1 a2 a3 a4 a5 a6 a7 a8 a9 a10 a11 a12 a13 : Nat → Int32} {X Y : Nat → Int} {n : Nat} {sg : Nat → Nat → Nat → Nat} {sq : Nat → Nat → Nat → Nat → Nat} {r : (Nat → Nat) × Nat} (hn : n ≤ 24) (h2 : 2 ≤ n) (hx : hz_xy n X Y a2 a3) (hg : hz_sg n X Y sg) (hq : hz_sq n X Y sq) (hp : hz_insall sg sq n = some r) (H : ∀ ks a4 a5, hz_mh r.2 r.1 a4 → post (pr, nI n, nI r.2, ks, wt, a1, a2, a3, a4, a5, a6, a7, a8, a9, a10, a11, a12, a13)) : wpX_insertAll post (pr, nI n, 0, ks, wt, a1, a2, a3, a4, a5, a6, a7, a8, a9, a10, a11, a12, a13) :=
  ⟨25, hz_ia_w hn h2 hx hg hq H 25 0 (fun _ => 0) 0 _ _ _ (by omega) hp (hz_mh0 _ _)⟩
end
section
theorem hz_enter {post : St2 → Prop} {pr sz ks wt : Int32} {a1 a2 a3 a4 a5 a6 a7 a8 a9 a10 a11 a12 a13 : Nat → Int32} {c x y : Nat} {p0 : Int32} (hc : c < 24) (hx : x < 64) (hy : y < 64) (e0 : p0 = nI (x * 64 + y)) (hl : 0 < c → ∃ x' y', a2 (c - 1) = nI x' ∧ a3 (c - 1) = nI y' ∧ x' < 64 ∧ y' < 64 ∧ x' * 64 + y' < x * 64 + y) (H : post (pr, nI (c + 1), sz, ks, wt, a1, upd a2 c (nI x), upd a3 c (nI y), a4, a5, a6, a7, a8, a9, a10, a11, a12, a13)) : wpX_enter post (pr, nI c, sz, ks, wt, a1, a2, a3, a4, a5, a6, a7, a8, a9, a10, a11, a12, a13) p0 := by
  subst e0
  have d1 : nI (x * 64 + y) / 64 = nI x := by
    rw [show nI (x * 64 + y) / 64 = nI ((x * 64 + y) / 64) from pk_div (d := 64) (by omega) (by decide) (by decide), show (x * 64 + y) / 64 = x by omega]
  have d2 : nI (x * 64 + y) - nI (x * 64 + y) / 64 * 64 = nI y := by
    rw [show nI (x * 64 + y) - nI (x * 64 + y) / 64 * 64 = nI ((x * 64 + y) % 64) from pk_rem (d := 64) (by omega) (by decide) (by decide), show (x * 64 + y) % 64 = y by omega]
  have f73 : ∃ fu, wX_enter_73 post (nI (x * 64 + y)) (nI c) pr (nI c) sz ks wt fu (nI c) a1 a2 a3 a4 a5 a6 a7 a8 a9 a10 a11 a12 a13 := by
    refine ⟨1, pk_le c c (fun _ => ⟨by decide, pk_in c 24 hc, nm_e ⟨by decide, pk_in c 24 hc, nm_e (nm_r (nI_1 c) ?_)⟩⟩) (fun z => absurd z (by omega))⟩
    rw [d2, d1, nI_clamp (by omega), hz_b8 x (by omega), hz_b8 y (by omega)]
    exact H
  have key : 0 < c → vp_in (nI c - 1) 24 ∧ ∃ k, a2 (nI c - 1).toNatClampNeg * 64 + a3 (nI c - 1).toNatClampNeg = nI k ∧ k < x * 64 + y := by
    intro h0
    obtain ⟨x', y', q1, q2, q3, q4, q5⟩ := hl h0
    have e : nI c - 1 = nI (c - 1) := pk_sub (show 1 ≤ c by omega)
    refine ⟨pk_in (c - 1) 24 (by omega) e, x' * 64 + y', ?_, q5⟩
    rw [e, nI_clamp (by omega), q1, q2, show nI x' * 64 = nI (x' * 64) from pk_mul x' 64, nI_add]
  have f39 : wX_enter_39 post (nI (x * 64 + y)) (nI c) pr (nI c) sz ks wt a1 a2 a3 a4 a5 a6 a7 a8 a9 a10 a11 a12 a13 := by
    unfold wX_enter_39
    refine pk_le c 0 (fun z => f73) (fun z => ?_)
    obtain ⟨k1, k, k2, k3⟩ := key z
    exact ⟨k1, k1, pk_eq k (x * 64 + y) (fun z => absurd z (by omega)) (fun _ => f73) k2⟩
  refine ⟨1, pk_le c 0 (fun z => f39) (fun z => ?_)⟩
  obtain ⟨k1, k, k2, k3⟩ := key z
  exact ⟨k1, k1, pk_le k (x * 64 + y) (fun _ => f39) (fun z => absurd z (by omega)) k2⟩
theorem hz_keyP {post : Int32 → Prop} {x y : Nat} {p0 : Int32} (hx : x < 64) (hy : y < 64) (e0 : p0 = nI (x + 64 * y)) (H : post (nI (x * 64 + y))) : wpX_key post () p0 := by
  subst e0
  refine ⟨by decide, by decide, ?_⟩
  have d1 : nI (x + 64 * y) / 64 = nI y := by
    rw [show nI (x + 64 * y) / 64 = nI ((x + 64 * y) / 64) from pk_div (d := 64) (by omega) (by decide) (by decide), show (x + 64 * y) / 64 = y by omega]
  have d2 : nI (x + 64 * y) - nI (x + 64 * y) / 64 * 64 = nI x := by
    rw [show nI (x + 64 * y) - nI (x + 64 * y) / 64 * 64 = nI ((x + 64 * y) % 64) from pk_rem (d := 64) (by omega) (by decide) (by decide), show (x + 64 * y) % 64 = x by omega]
  rw [d2, d1, show nI x * 64 = nI (x * 64) from pk_mul x 64, nI_add]
  exact H
/-- gathering the set, over these places of points, gives n places with these coordinates -/
def hz_cfg (set : Int32) (a1 : Nat → Int32) (n : Nat) (X Y : Nat → Int) : Prop := ∀ (post : St2 → Prop) (pr ct sz ks wt : Int32) (a2 a3 a4 a5 a6 a7 a8 a9 a10 a11 a12 a13 : Nat → Int32), (∀ (a2 a3 : Nat → Int32), hz_xy n X Y a2 a3 → post (pr, nI n, sz, ks, wt, a1, a2, a3, a4, a5, a6, a7, a8, a9, a10, a11, a12, a13)) → wpX_gather post (pr, ct, sz, ks, wt, a1, a2, a3, a4, a5, a6, a7, a8, a9, a10, a11, a12, a13) set
theorem hz_gather {set : Int32} {a1 : Nat → Int32} (cnt ix X Y : Nat → Nat) (sl : Nat → Bool) (hsl : ∀ k, k < 24 → (((set >>> (nI k &&& 31)) &&& 1) = 0 ↔ sl k = false)) (hc : cnt 0 = 0) (hc1 : ∀ k, k < 24 → sl k = true → cnt (k + 1) = cnt k + 1 ∧ ix (cnt k) = k) (hc0 : ∀ k, k < 24 → sl k = false → cnt (k + 1) = cnt k) (hP : ∀ k, k < 24 → sl k = true → a1 k = nI (X k + 64 * Y k) ∧ X k < 64 ∧ Y k < 64) (hinc : ∀ j k, j < k → k < 24 → sl j = true → sl k = true → X j * 64 + Y j < X k * 64 + Y k) : hz_cfg set a1 (cnt 24) (fun j => (X (ix j) : Int)) (fun j => (Y (ix j) : Int)) := by
  intro post pr ct sz ks wt a2 a3 a4 a5 a6 a7 a8 a9 a10 a11 a12 a13 H
  have hle : ∀ k, k ≤ 24 → cnt k ≤ k := by
    intro k
    induction k with
    | zero => intro _; omega
    | succ k ih =>
      intro hk
      have := ih (by omega)
      cases e : sl k with
      | false => have := hc0 k (by omega) e; omega
      | true => have := (hc1 k (by omega) e).1; omega
  have L := pk_loop (σ := (Nat → Int32) × (Nat → Int32)) (fun N k t => wX_gather_7 post set N (nI k) pr (nI (cnt k)) sz ks wt a1 t.1 t.2 a4 a5 a6 a7 a8 a9 a10 a11 a12 a13) (fun k t => ∀ j, j < cnt k → ix j < k ∧ sl (ix j) = true ∧ t.1 j = nI (X (ix j)) ∧ t.2 j = nI (Y (ix j))) 24 0 (a2, a3) (by omega) (fun j hj => absurd hj (by omega))
    (fun N t h => pk_le 24 24 (fun _ => H _ _ (fun j hj => by
      obtain ⟨q1, q2, q3, q4⟩ := h j hj
      obtain ⟨_, r2, r3⟩ := hP (ix j) q1 q2
      refine ⟨?_, ?_, ?_, ?_, ?_, ?_⟩
      · rw [q3, hz_n]
      · rw [q4, hz_n]
      · show (0 : Int) ≤ ((X (ix j) : Nat) : Int)
        omega
      · show ((X (ix j) : Nat) : Int) ≤ 63
        omega
      · show (0 : Int) ≤ ((Y (ix j) : Nat) : Int)
        omega
      · show ((Y (ix j) : Nat) : Int) ≤ 63
        omega)) (fun z => absurd z (by omega)))
    (fun N k t hk h hw => pk_le 24 k (fun z => absurd z (by omega)) (fun _ => by
      cases e : sl k with
      | false =>
        refine br_t ((hsl k hk).mpr e) (nm_r (nI_1 k) ?_)
        have e2 := hc0 k hk e
        have := hw t (fun j hj => by
          obtain ⟨q1, q2, q3, q4⟩ := h j (by omega)
          exact ⟨by omega, q2, q3, q4⟩)
        rw [e2] at this
        exact this
      | true =>
        obtain ⟨e1, e2⟩ := hc1 k hk e
        obtain ⟨r1, r2, r3⟩ := hP k hk e
        have hck := hle k (by omega)
        refine br_f (fun z => absurd ((hsl k hk).mp z) (by rw [e]; decide)) ⟨pk_in k 24 hk, hz_keyP r2 r3 (by rw [nI_clamp (by omega)]; exact r1) (hz_enter (c := cnt k) (by omega) r2 r3 rfl (fun h0 => ?_) (nm_r (nI_1 k) ?_))⟩
        · obtain ⟨q1, q2, q3, q4⟩ := h (cnt k - 1) (by omega)
          obtain ⟨_, s2, s3⟩ := hP _ (by omega) q2
          exact ⟨_, _, q3, q4, s2, s3, hinc _ _ q1 hk q2 e⟩
        · have := hw (upd t.1 (cnt k) (nI (X k)), upd t.2 (cnt k) (nI (Y k))) (fun j hj => by
            by_cases ej : j = cnt k
            · subst ej
              rw [e2]
              exact ⟨by omega, e, pk_us, pk_us⟩
            · obtain ⟨q1, q2, q3, q4⟩ := h j (by omega)
              refine ⟨by omega, q2, ?_, ?_⟩
              · show upd t.1 (cnt k) (nI (X k)) j = _
                rw [pk_un ej]
                exact q3
              · show upd t.2 (cnt k) (nI (Y k)) j = _
                rw [pk_un ej]
                exact q4)
          rw [e1] at this
          exact this))
  rw [hc] at L
  exact L
/-- an engine -/
def hz_run (e : Nat) (post : St2 → Prop) (u : St2) : Prop := match e with
  | 0 => wpX_wrap post u
  | 1 => wpX_scanAround post u
  | 2 => wpX_scanTwice post u
  | 3 => wpX_partOff post u
  | 4 => wpX_merge post u
  | _ => wpX_insertAll post u
/-- engine e finds these s corners h among these n places -/
def hz_eng (n : Nat) (X Y : Nat → Int) (e s : Nat) (h : Nat → Nat) : Prop := ∀ (post : St2 → Prop) (pr ks wt : Int32) (a1 a2 a3 a4 a5 a6 a7 a8 a9 a10 a11 a12 a13 : Nat → Int32), hz_xy n X Y a2 a3 → (∀ (ks wt : Int32) (a4 a5 a7 a8 a9 a10 a11 a12 a13 : Nat → Int32), hz_mh s h a4 → post (pr, nI n, nI s, ks, wt, a1, a2, a3, a4, a5, a6, a7, a8, a9, a10, a11, a12, a13)) → hz_run e post (pr, nI n, 0, ks, wt, a1, a2, a3, a4, a5, a6, a7, a8, a9, a10, a11, a12, a13)
/-- solving a set with engine e finds them -/
def hz_sol (set : Int32) (a1 : Nat → Int32) (n : Nat) (X Y : Nat → Int) (e s : Nat) (h : Nat → Nat) : Prop := ∀ (post : St2 → Prop) (pr ct sz ks wt : Int32) (a2 a3 a4 a5 a6 a7 a8 a9 a10 a11 a12 a13 : Nat → Int32), (∀ (ks wt : Int32) (a2 a3 a4 a5 a7 a8 a9 a10 a11 a12 a13 : Nat → Int32), hz_xy n X Y a2 a3 → hz_mh s h a4 → post (pr, nI n, nI s, ks, wt, a1, a2, a3, a4, a5, a6, a7, a8, a9, a10, a11, a12, a13)) → wpX_solve post (pr, ct, sz, ks, wt, a1, a2, a3, a4, a5, a6, a7, a8, a9, a10, a11, a12, a13) (nI e) set
theorem hz_solve {set : Int32} {a1 : Nat → Int32} {n e s : Nat} {X Y : Nat → Int} {h : Nat → Nat} (he : e < 6) (hn : n ≤ 24) (h2 : 2 ≤ n) (hc : hz_cfg set a1 n X Y) (hE : hz_eng n X Y e s h) : hz_sol set a1 n X Y e s h := by
  intro post pr ct sz ks wt a2 a3 a4 a5 a6 a7 a8 a9 a10 a11 a12 a13 H
  unfold wpX_solve
  refine hc _ pr ct sz ks wt a2 a3 a4 a5 a6 a7 a8 a9 a10 a11 a12 a13 (fun b2 b3 hb => pk_le 2 n (fun _ => ?_) (fun z => absurd z (by omega)))
  have F : ∀ (post' : St2 → Prop), (∀ (ks wt : Int32) (a4 a5 a7 a8 a9 a10 a11 a12 a13 : Nat → Int32), hz_mh s h a4 → post' (pr, nI n, nI s, ks, wt, a1, b2, b3, a4, a5, a6, a7, a8, a9, a10, a11, a12, a13)) → hz_run e post' (pr, nI n, 0, ks, wt, a1, b2, b3, a4, a5, a6, a7, a8, a9, a10, a11, a12, a13) := fun post' H' => hE post' _ _ _ _ _ _ _ _ _ _ _ _ _ _ _ _ hb H'
  have H2 : ∀ (ks wt : Int32) (a4 a5 a7 a8 a9 a10 a11 a12 a13 : Nat → Int32), hz_mh s h a4 → post (pr, nI n, nI s, ks, wt, a1, b2, b3, a4, a5, a6, a7, a8, a9, a10, a11, a12, a13) := fun ks wt a4 a5 a7 a8 a9 a10 a11 a12 a13 hm => H _ _ _ _ _ _ _ _ _ _ _ _ _ hb hm
  have e6 : e = 0 ∨ e = 1 ∨ e = 2 ∨ e = 3 ∨ e = 4 ∨ e = 5 := by omega
  rcases e6 with e6 | e6 | e6 | e6 | e6 | e6
  · subst e6
    exact br_f (by decide) (br_f (by decide) (br_t rfl (F _ H2)))
  · subst e6
    exact br_f (by decide) (br_f (by decide) (br_f (by decide) (br_t rfl (F _ H2))))
  · subst e6
    exact br_f (by decide) (br_f (by decide) (br_f (by decide) (br_f (by decide) (br_t rfl (F _ H2)))))
  · subst e6
    exact br_f (by decide) (br_f (by decide) (br_f (by decide) (br_f (by decide) (br_f (by decide) (br_t rfl (F _ H2))))))
  · subst e6
    exact br_f (by decide) (br_f (by decide) (br_f (by decide) (br_f (by decide) (br_f (by decide) (br_f (by decide) (br_t rfl (F _ H2)))))))
  · subst e6
    exact br_f (by decide) (br_t (by decide) (F _ H2))
theorem hz_solve0 {set : Int32} {a1 : Nat → Int32} {e : Nat} {X Y : Nat → Int} {h : Nat → Nat} (hc : hz_cfg set a1 0 X Y) : hz_sol set a1 0 X Y e 0 h := by
  intro post pr ct sz ks wt a2 a3 a4 a5 a6 a7 a8 a9 a10 a11 a12 a13 H
  unfold wpX_solve
  exact hc _ pr ct sz ks wt a2 a3 a4 a5 a6 a7 a8 a9 a10 a11 a12 a13 (fun b2 b3 hb => br_f (by decide) (nm_e (H _ _ _ _ _ _ _ _ _ _ _ _ _ hb (hz_mh0 _ _))))
end
section
/-- the turn from a over b to the place (px, py) -/
def hz_cp (X Y : Nat → Int) (px py : Int) (a b : Nat) : Int := (X b - X a) * (py - Y a) - (Y b - Y a) * (px - X a)
def hz_al (X Y : Nat → Int) (px py : Int) (a b : Nat) : Int := (px - X a) * (px - X b) + (py - Y a) * (py - Y b)
theorem hz_cpB {n a b x y : Nat} {X Y : Nat → Int} {a2 a3 : Nat → Int32} (hx : hz_xy n X Y a2 a3) (ha : a < n) (hb : b < n) (h1 : x < 64) (h2 : y < 64) : -7938 ≤ hz_cp X Y x y a b ∧ hz_cp X Y x y a b ≤ 7938 := by
  obtain ⟨_, _, a3, a4, a5, a6⟩ := hx a ha
  obtain ⟨_, _, b3, b4, b5, b6⟩ := hx b hb
  have p := hz_m63 (a := X b - X a) (b := (y : Int) - Y a) (by omega) (by omega) (by omega) (by omega)
  have q := hz_m63 (a := Y b - Y a) (b := (x : Int) - X a) (by omega) (by omega) (by omega) (by omega)
  unfold hz_cp
  omega
theorem hz_alB {n a b x y : Nat} {X Y : Nat → Int} {a2 a3 : Nat → Int32} (hx : hz_xy n X Y a2 a3) (ha : a < n) (hb : b < n) (h1 : x < 64) (h2 : y < 64) : -7938 ≤ hz_al X Y x y a b ∧ hz_al X Y x y a b ≤ 7938 := by
  obtain ⟨_, _, a3, a4, a5, a6⟩ := hx a ha
  obtain ⟨_, _, b3, b4, b5, b6⟩ := hx b hb
  have p := hz_m63 (a := (x : Int) - X a) (b := (x : Int) - X b) (by omega) (by omega) (by omega) (by omega)
  have q := hz_m63 (a := (y : Int) - Y a) (b := (y : Int) - Y b) (by omega) (by omega) (by omega) (by omega)
  unfold hz_al
  omega
theorem hz_turnTo {post : Int32 → Prop} {pr ct sz ks wt : Int32} {a1 a2 a3 a4 a5 a6 a7 a8 a9 a10 a11 a12 a13 : Nat → Int32} {X Y : Nat → Int} {n s i j x y : Nat} {h : Nat → Nat} {p0 p1 p2 p3 : Int32} (hn : n ≤ 24) (hx : hz_xy n X Y a2 a3) (hs : s ≤ 48) (hm : hz_mh s h a4) (hi : i < s) (hj : j < s) (h1 : h i < n) (h2 : h j < n) (x1 : x < 64) (y1 : y < 64) (e0 : p0 = nI i) (e1 : p1 = nI j) (e2 : p2 = nI x) (e3 : p3 = nI y) (H : hz_B (hz_cp X Y x y (h i) (h j)) → post (hz_I (hz_cp X Y x y (h i) (h j)))) : wpX_turnTo post (pr, ct, sz, ks, wt, a1, a2, a3, a4, a5, a6, a7, a8, a9, a10, a11, a12, a13) p0 p1 p2 p3 := by
  subst e0 e1 e2 e3
  unfold wpX_turnTo
  refine ⟨pk_in i 48 (by omega), nm_r (e' := nI (h i)) (by rw [nI_clamp (by omega)]; exact (hm i hi).1) ⟨pk_in j 48 (by omega), nm_r (e' := nI (h j)) (by rw [nI_clamp (by omega)]; exact (hm j hj).1) ⟨pk_in (h j) 24 (by omega), pk_in (h i) 24 (by omega), pk_in (h i) 24 (by omega), nm_e ⟨pk_in (h j) 24 (by omega), pk_in (h i) 24 (by omega), pk_in (h i) 24 (by omega), ?_⟩⟩⟩⟩
  rw [nI_clamp (show h i < 2 ^ 31 by omega), nI_clamp (show h j < 2 ^ 31 by omega), (hx _ h1).1, (hx _ h1).2.1, (hx _ h2).1, (hx _ h2).2.1, hz_n x, hz_n y]
  simp only [hz_sub, hz_mul]
  have := hz_cpB hx h1 h2 x1 y1
  exact H ⟨by omega, by omega⟩
theorem hz_isB {post : Int32 → Prop} {pr ct sz ks wt : Int32} {a1 a2 a3 a4 a5 a6 a7 a8 a9 a10 a11 a12 a13 : Nat → Int32} {X Y : Nat → Int} {n s i j x y : Nat} {h : Nat → Nat} {p0 p1 p2 p3 : Int32} (hn : n ≤ 24) (hx : hz_xy n X Y a2 a3) (hs : s ≤ 48) (hm : hz_mh s h a4) (hi : i < s) (hj : j < s) (h1 : h i < n) (h2 : h j < n) (x1 : x < 64) (y1 : y < 64) (e0 : p0 = nI i) (e1 : p1 = nI j) (e2 : p2 = nI x) (e3 : p3 = nI y) (H0 : 0 < hz_al X Y x y (h i) (h j) → post 0) (H1 : hz_al X Y x y (h i) (h j) ≤ 0 → post 1) : wpX_isBetween post (pr, ct, sz, ks, wt, a1, a2, a3, a4, a5, a6, a7, a8, a9, a10, a11, a12, a13) p0 p1 p2 p3 := by
  subst e0 e1 e2 e3
  unfold wpX_isBetween
  refine ⟨pk_in i 48 (by omega), nm_r (e' := nI (h i)) (by rw [nI_clamp (by omega)]; exact (hm i hi).1) ⟨pk_in j 48 (by omega), nm_r (e' := nI (h j)) (by rw [nI_clamp (by omega)]; exact (hm j hj).1) ⟨pk_in (h i) 24 (by omega), pk_in (h j) 24 (by omega), pk_in (h i) 24 (by omega), pk_in (h j) 24 (by omega), nm_r (e' := hz_I (hz_al X Y x y (h i) (h j))) ?_ ?_⟩⟩⟩
  · rw [nI_clamp (show h i < 2 ^ 31 by omega), nI_clamp (show h j < 2 ^ 31 by omega), (hx _ h1).1, (hx _ h1).2.1, (hx _ h2).1, (hx _ h2).2.1, hz_n x, hz_n y]
    simp only [hz_sub, hz_mul, hz_add]
    rfl
  · have := hz_alB hx h1 h2 x1 y1
    exact zb_pos ⟨by omega, by omega⟩ H0 H1
def hz_sp (n : Nat) (X Y : Nat → Int) (x y : Nat) (sp : Nat → Nat → Nat) : Prop := ∀ a b, a < n → b < n → (sp a b = 0 → hz_cp X Y x y a b < 0) ∧ (sp a b = 1 → hz_cp X Y x y a b = 0) ∧ (sp a b = 2 → 0 < hz_cp X Y x y a b)
def hz_bt (n : Nat) (X Y : Nat → Int) (x y : Nat) (bt : Nat → Nat → Nat) : Prop := ∀ a b, a < n → b < n → (bt a b = 0 → 0 < hz_al X Y x y a b) ∧ (bt a b = 1 → hz_al X Y x y a b ≤ 0)
def hz_loc (sp : Nat → Nat → Nat) (h : Nat → Nat) : Nat → Nat → Nat → Option Nat
  | 0, _, _ => none
  | N + 1, lo, hi => hz_g (decide (lo ≤ hi)) (if hi - lo ≤ 1 then some lo else hz_3 (sp (h 0) (h ((lo + hi) / 2))) (hz_loc sp h N lo ((lo + hi) / 2)) (hz_loc sp h N ((lo + hi) / 2) hi) (hz_loc sp h N ((lo + hi) / 2) hi))
def hz_wh (sp bt : Nat → Nat → Nat) (h : Nat → Nat) (s : Nat) : Option Nat := if s = 0 then some 0 else hz_g (decide (3 ≤ s ∧ s ≤ 48)) (hz_3 (sp (h 0) (h 1)) (some 0)
    (hz_3 (sp (h 0) (h (s - 1))) (hz_2 (bt (h 0) (h 1)) (some 0) (some 1)) (hz_2 (bt (h 0) (h 1)) (some 0) (some 1)) (some 0))
    (hz_3 (sp (h 0) (h (s - 1))) ((hz_loc sp h 49 1 (s - 1)).bind (fun i => hz_g (decide (i + 1 < s)) (hz_3 (sp (h i) (h (i + 1))) (some 0) (some 1) (some 2)))) (hz_2 (bt (h 0) (h (s - 1))) (some 0) (some 1)) (some 0)))
theorem hz_43a {post : Int32 → Prop} {J10 : Int32 → Int32 → Prop} {pr ct sz ks wt : Int32} {a1 a2 a3 a4 a5 a6 a7 a8 a9 a10 a11 a12 a13 : Nat → Int32} {x1 x2 x3 x4 x5 : Int32} (H : J10 x3 x5) : wX_locate_43 post J10 x1 x2 x3 x4 x5 0 pr ct sz ks wt a1 a2 a3 a4 a5 a6 a7 a8 a9 a10 a11 a12 a13 := by
  unfold wX_locate_43 wX_locate_56
  exact br_t rfl (br_t rfl H)
theorem hz_43b {post : Int32 → Prop} {J10 : Int32 → Int32 → Prop} {pr ct sz ks wt : Int32} {a1 a2 a3 a4 a5 a6 a7 a8 a9 a10 a11 a12 a13 : Nat → Int32} {x1 x2 x3 x4 x5 : Int32} (H : J10 x5 x4) : wX_locate_43 post J10 x1 x2 x3 x4 x5 1 pr ct sz ks wt a1 a2 a3 a4 a5 a6 a7 a8 a9 a10 a11 a12 a13 := by
  unfold wX_locate_43 wX_locate_56
  exact br_f (by decide) (br_f (by decide) H)
theorem hz_loc_w {post : Int32 → Prop} {pr ct ks wt : Int32} {a1 a2 a3 a4 a5 a6 a7 a8 a9 a10 a11 a12 a13 : Nat → Int32} {X Y : Nat → Int} {n s x y r : Nat} {h : Nat → Nat} {sp : Nat → Nat → Nat} (hn : n ≤ 24) (hx : hz_xy n X Y a2 a3) (hs : s ≤ 48) (hm : hz_mh s h a4) (hb : ∀ j, j < s → h j < n) (x1 : x < 64) (y1 : y < 64) (hp : hz_sp n X Y x y sp) (H : post (nI r)) : ∀ N lo hi, hi < s → hz_loc sp h N lo hi = some r → wX_locate_10 post (nI x) (nI y) pr ct (nI s) ks wt a1 a2 a3 a4 a5 a6 a7 a8 a9 a10 a11 a12 a13 N (nI lo) (nI hi) := by
  intro N
  induction N with
  | zero => intro lo hi _ hq; exact absurd hq (by simp [hz_loc])
  | succ N ih =>
    intro lo hi hh hq
    rw [hz_loc] at hq
    obtain ⟨hv, hq⟩ := hz_gE hq
    have hv := of_decide_eq_true hv
    refine pk_le (hi - lo) 1 (fun z => ?_) (fun z => ⟨by decide, nm_r (e' := nI ((lo + hi) / 2)) ?_ ?_⟩) (pk_sub hv)
    · rw [if_pos z] at hq
      have hr := Option.some.inj hq
      subst hr
      exact H
    · rw [nI_add]
      exact pk_div (d := 2) (by omega) (by decide) (by decide)
    · rw [if_neg (by omega)] at hq
      have hmid : (lo + hi) / 2 < s := by omega
      have P := hp (h 0) (h ((lo + hi) / 2)) (hb 0 (by omega)) (hb _ hmid)
      refine hz_turnTo hn hx hs hm (show 0 < s by omega) hmid (hb 0 (by omega)) (hb _ hmid) x1 y1 rfl rfl rfl rfl (fun hB => ?_)
      rcases hz_3E hq with ⟨ht, hq⟩ | ⟨ht, hq⟩ | ⟨ht, hq⟩
      · have := P.1 ht
        exact zb_neg hB (fun _ => hz_43a (ih _ _ hmid hq)) (fun k => absurd k (by omega))
      · have := P.2.1 ht
        exact zb_neg hB (fun k => absurd k (by omega)) (fun _ => hz_43b (ih _ _ hh hq))
      · have := P.2.2 ht
        exact zb_neg hB (fun k => absurd k (by omega)) (fun _ => hz_43b (ih _ _ hh hq))
/-- where the place (x, y) is: v -/
def hz_wq (n : Nat) (X Y : Nat → Int) (s : Nat) (h : Nat → Nat) (x y v : Nat) : Prop := x < 64 ∧ y < 64 ∧ ∃ sp bt, hz_sp n X Y x y sp ∧ hz_bt n X Y x y bt ∧ hz_wh sp bt h s = some v
theorem hz_where {post : Int32 → Prop} {pr ct ks wt : Int32} {a1 a2 a3 a4 a5 a6 a7 a8 a9 a10 a11 a12 a13 : Nat → Int32} {X Y : Nat → Int} {n s x y v : Nat} {h : Nat → Nat} {p0 p1 : Int32} (hn : n ≤ 24) (hx : hz_xy n X Y a2 a3) (hs : s ≤ 48) (hm : hz_mh s h a4) (hb : ∀ j, j < s → h j < n) (hw : hz_wq n X Y s h x y v) (e0 : p0 = nI x) (e1 : p1 = nI y) (H : post (nI v)) : wpX_where post (pr, ct, nI s, ks, wt, a1, a2, a3, a4, a5, a6, a7, a8, a9, a10, a11, a12, a13) p0 p1 := by
  subst e0 e1
  obtain ⟨x1, y1, sp, bt, hp, ht, hq⟩ := hw
  unfold hz_wh at hq
  unfold wpX_where
  refine pk_eq s 0 (fun e => ?_) (fun e => ?_)
  · rw [if_pos e] at hq
    have hr := Option.some.inj hq
    subst hr
    exact H
  rw [if_neg e] at hq
  obtain ⟨hv, hq⟩ := hz_gE hq
  obtain ⟨v3, v48⟩ := of_decide_eq_true hv
  have es : nI s - 1 = nI (s - 1) := pk_sub (show 1 ≤ s by omega)
  have b0 := hb 0 (by omega)
  have b1 := hb 1 (by omega)
  have bl := hb (s - 1) (by omega)
  have P := hp (h 0) (h 1) b0 b1
  have Q := hp (h 0) (h (s - 1)) b0 bl
  have T01 := ht (h 0) (h 1) b0 b1
  have T0l := ht (h 0) (h (s - 1)) b0 bl
  refine pk_le 3 s (fun _ => ?_) (fun z => absurd z (by omega))
  refine hz_turnTo hn hx hs hm (show 0 < s by omega) (show 1 < s by omega) b0 b1 x1 y1 rfl rfl rfl rfl (fun hB => hz_turnTo hn hx hs hm (show 0 < s by omega) (show s - 1 < s by omega) b0 bl x1 y1 rfl es rfl rfl (fun hB2 => ?_))
  have btw : ∀ j, j < s → h j < n → (bt (h 0) (h j) = 0 → 0 < hz_al X Y x y (h 0) (h j)) ∧ (bt (h 0) (h j) = 1 → hz_al X Y x y (h 0) (h j) ≤ 0) → ∀ q, q = nI j → hz_2 (bt (h 0) (h j)) (some 0) (some 1) = some v → wpX_isBetween (fun r_15 => (((r_15 = 0 → (post 0)) ∧ (¬ r_15 = 0 → (post 1))))) (pr, ct, nI s, ks, wt, a1, a2, a3, a4, a5, a6, a7, a8, a9, a10, a11, a12, a13) 0 q (nI x) (nI y) := by
    intro j hj hjn hT q eq h2
    refine hz_isB hn hx hs hm (show 0 < s by omega) hj b0 hjn x1 y1 rfl eq rfl rfl (fun k => ?_) (fun k => ?_)
    · rcases hz_2E h2 with ⟨hu, h2⟩ | ⟨hu, h2⟩
      · have hr := Option.some.inj h2
        subst hr
        exact br_t rfl H
      · exact absurd (hT.2 hu) (by omega)
    · rcases hz_2E h2 with ⟨hu, h2⟩ | ⟨hu, h2⟩
      · exact absurd (hT.1 hu) (by omega)
      · have hr := Option.some.inj h2
        subst hr
        exact br_f (by decide) H
  rcases hz_3E hq with ⟨hu, hq⟩ | ⟨hu, hq⟩ | ⟨hu, hq⟩
  · have := P.1 hu
    have hr := Option.some.inj hq
    subst hr
    exact zb_neg hB (fun _ => H) (fun k => absurd k (by omega))
  · have := P.2.1 hu
    refine zb_neg hB (fun k => absurd k (by omega)) (fun _ => ?_)
    rcases hz_3E hq with ⟨hw, hq⟩ | ⟨hw, hq⟩ | ⟨hw, hq⟩
    · have := Q.1 hw
      exact zb_np hB2 (fun _ => zb_z hB (fun _ => btw 1 (by omega) b1 T01 _ rfl hq) (fun k => absurd k (by omega))) (fun k => absurd k (by omega))
    · have := Q.2.1 hw
      exact zb_np hB2 (fun _ => zb_z hB (fun _ => btw 1 (by omega) b1 T01 _ rfl hq) (fun k => absurd k (by omega))) (fun k => absurd k (by omega))
    · have := Q.2.2 hw
      have hr := Option.some.inj hq
      subst hr
      exact zb_np hB2 (fun k => absurd k (by omega)) (fun _ => H)
  · have := P.2.2 hu
    refine zb_neg hB (fun k => absurd k (by omega)) (fun _ => ?_)
    rcases hz_3E hq with ⟨hw, hq⟩ | ⟨hw, hq⟩ | ⟨hw, hq⟩
    · have := Q.1 hw
      refine zb_np hB2 (fun _ => zb_z hB (fun k => absurd k (by omega)) (fun _ => zb_z hB2 (fun k => absurd k (by omega)) (fun _ => ?_))) (fun k => absurd k (by omega))
      obtain ⟨i, hi, hq⟩ := hz_bE hq
      obtain ⟨hv2, hq⟩ := hz_gE hq
      have hv2 := of_decide_eq_true hv2
      unfold wpX_locate
      refine nm_r es ⟨49, hz_loc_w hn hx hs hm hb x1 y1 hp ?_ 49 1 (s - 1) (by omega) hi⟩
      have R := hp (h i) (h (i + 1)) (hb _ (by omega)) (hb _ hv2)
      refine hz_turnTo hn hx hs hm (show i < s by omega) hv2 (hb _ (by omega)) (hb _ hv2) x1 y1 rfl (nI_1 i) rfl rfl (fun hB3 => ?_)
      rcases hz_3E hq with ⟨h3, hq⟩ | ⟨h3, hq⟩ | ⟨h3, hq⟩
      · have := R.1 h3
        have hr := Option.some.inj hq
        subst hr
        exact zb_nn hB3 (fun k => absurd k (by omega)) (fun _ => H)
      · have := R.2.1 h3
        have hr := Option.some.inj hq
        subst hr
        exact zb_nn hB3 (fun _ => zb_z hB3 (fun _ => H) (fun k => absurd k (by omega))) (fun k => absurd k (by omega))
      · have := R.2.2 h3
        have hr := Option.some.inj hq
        subst hr
        exact zb_nn hB3 (fun _ => zb_z hB3 (fun k => absurd k (by omega)) (fun _ => H)) (fun k => absurd k (by omega))
    · have := Q.2.1 hw
      exact zb_np hB2 (fun _ => zb_z hB (fun k => absurd k (by omega)) (fun _ => zb_z hB2 (fun _ => btw (s - 1) (by omega) bl T0l _ es hq) (fun k => absurd k (by omega)))) (fun k => absurd k (by omega))
    · have := Q.2.2 hw
      have hr := Option.some.inj hq
      subst hr
      exact zb_np hB2 (fun k => absurd k (by omega)) (fun _ => H)
/-- the border as bits -/
def hz_bd (on : Nat → Bool) : Nat → Int32
  | 0 => 0
  | k + 1 => bif on k then hz_bd on k ||| ((1 : Int32) <<< (nI k &&& 31)) else hz_bd on k ||| 0
/-- the border of a set is b -/
def hz_bo (set : Int32) (a1 : Nat → Int32) (b : Int32) : Prop := ∀ (post : Int32 → St2 → Prop) (pr ct sz ks wt : Int32) (a2 a3 a4 a5 a6 a7 a8 a9 a10 a11 a12 a13 : Nat → Int32), (∀ (ct sz ks wt : Int32) (a2 a3 a4 a5 a6 a7 a8 a9 a10 a11 a12 a13 : Nat → Int32), post b (pr, ct, sz, ks, wt, a1, a2, a3, a4, a5, a6, a7, a8, a9, a10, a11, a12, a13)) → wpX_borderOf post (pr, ct, sz, ks, wt, a1, a2, a3, a4, a5, a6, a7, a8, a9, a10, a11, a12, a13) set
theorem hz_55 {post : Int32 → St2 → Prop} {J10 : Int32 → Int32 → Prop} {pr ct sz ks wt : Int32} {a1 a2 a3 a4 a5 a6 a7 a8 a9 a10 a11 a12 a13 : Nat → Int32} {x1 : Int32} {k : Nat} {on : Nat → Bool} (ho : on k = true) (H : J10 (hz_bd on (k + 1)) (nI (k + 1))) : wX_borderOf_55 post J10 x1 (hz_bd on k) (nI k) 1 pr ct sz ks wt a1 a2 a3 a4 a5 a6 a7 a8 a9 a10 a11 a12 a13 := by
  unfold wX_borderOf_55
  refine br_f (by decide) (nm_r (e' := hz_bd on (k + 1)) ?_ (nm_r (nI_1 k) H))
  rw [hz_bd, ho]
  rfl
theorem hz_b54 {post : Int32 → St2 → Prop} {J10 : Int32 → Int32 → Prop} {pr ct sz ks wt : Int32} {a1 a2 a3 a4 a5 a6 a7 a8 a9 a10 a11 a12 a13 : Nat → Int32} {x1 : Int32} {k : Nat} {on : Nat → Bool} (ho : on k = false) (H : J10 (hz_bd on (k + 1)) (nI (k + 1))) : wX_borderOf_54 post J10 x1 (hz_bd on k) (nI k) pr ct sz ks wt a1 a2 a3 a4 a5 a6 a7 a8 a9 a10 a11 a12 a13 := by
  unfold wX_borderOf_54 wX_borderOf_55
  refine br_t rfl (nm_r (e' := hz_bd on (k + 1)) ?_ (nm_r (nI_1 k) H))
  rw [hz_bd, ho]
  rfl
theorem hz_div64 {x y : Nat} (hx : x < 64) (hy : y < 64) : nI (x + 64 * y) / 64 = nI y := by
  rw [show nI (x + 64 * y) / 64 = nI ((x + 64 * y) / 64) from pk_div (d := 64) (by omega) (by decide) (by decide), show (x + 64 * y) / 64 = y by omega]
theorem hz_rem64 {x y : Nat} (hx : x < 64) (hy : y < 64) : nI (x + 64 * y) - nI (x + 64 * y) / 64 * 64 = nI x := by
  rw [show nI (x + 64 * y) - nI (x + 64 * y) / 64 * 64 = nI ((x + 64 * y) % 64) from pk_rem (d := 64) (by omega) (by decide) (by decide), show (x + 64 * y) % 64 = x by omega]
theorem hz_border {set : Int32} {a1 : Nat → Int32} {X Y : Nat → Int} {n s : Nat} {h : Nat → Nat} (val : Nat → Nat) (sl : Nat → Bool) (hn : n ≤ 24) (hs : s ≤ 48) (hb : ∀ j, j < s → h j < n) (hsol : hz_sol set a1 n X Y 2 s h) (hsl : ∀ k, k < 24 → (((set >>> (nI k &&& 31)) &&& 1) = 0 ↔ sl k = false)) (hv : ∀ k, k < 24 → sl k = true → ∃ x y, a1 k = nI (x + 64 * y) ∧ hz_wq n X Y s h x y (val k) ∧ val k < 24) : hz_bo set a1 (hz_bd (fun k => sl k && (val k == 1)) 24) := by
  intro post pr ct sz ks wt a2 a3 a4 a5 a6 a7 a8 a9 a10 a11 a12 a13 H
  unfold wpX_borderOf
  refine hsol _ _ _ _ _ _ _ _ _ _ _ _ _ _ _ _ _ _ (fun ks wt b2 b3 b4 b5 b7 b8 b9 b10 b11 b12 b13 hx hm => ?_)
  refine pk_loop (σ := Unit) (fun N k _ => wX_borderOf_10 post set pr (nI n) (nI s) ks wt a1 b2 b3 b4 b5 a6 b7 b8 b9 b10 b11 b12 b13 N (hz_bd (fun k => sl k && (val k == 1)) k) (nI k)) (fun _ _ => True) 24 0 () (by omega) trivial
    (fun N _ _ => pk_le 24 24 (fun _ => H _ _ _ _ _ _ _ _ _ _ _ _ _ _ _ _) (fun z => absurd z (by omega)))
    (fun N k _ hk _ hw => pk_le 24 k (fun z => absurd z (by omega)) (fun _ => ?_))
  cases e : sl k with
  | false => exact br_t ((hsl k hk).mpr e) (hz_b54 (by show (sl k && (val k == 1)) = false; rw [e]; rfl) (hw () trivial))
  | true =>
    obtain ⟨x, y, e1, hq, hv24⟩ := hv k hk e
    have e1' : a1 (nI k).toNatClampNeg = nI (x + 64 * y) := by
      rw [nI_clamp (by omega)]
      exact e1
    refine br_f (fun z => absurd ((hsl k hk).mp z) (by rw [e]; decide)) ⟨pk_in k 24 hk, by decide, pk_in k 24 hk, by decide, hz_where hn hx hs hm hb hq ?_ ?_ ?_⟩
    · rw [e1']
      exact hz_rem64 hq.1 hq.2.1
    · rw [e1']
      exact hz_div64 hq.1 hq.2.1
    · refine pk_eq (val k) 1 (fun z => hz_55 ?_ (hw () trivial)) (fun z => hz_b54 ?_ (hw () trivial))
      · show (sl k && (val k == 1)) = true
        rw [e, z]
        rfl
      · show (sl k && (val k == 1)) = false
        rw [e, Bool.true_and]
        exact beq_eq_false_iff_ne.mpr z
end
section
theorem hz_isE {post : Int32 → Prop} {e : Nat} {p0 : Int32} (he : e < 6) (e0 : p0 = nI e) (H : post 1) : wpX_isEngine post () p0 := by
  subst e0
  unfold wpX_isEngine
  exact br_f (nI_pos (by omega)) (pk_le 6 e (fun z => absurd z (by omega)) (fun _ => H))
theorem hz_isP {post : Int32 → Prop} {p : Nat} {p0 : Int32} (he : p < 4096) (e0 : p0 = nI p) (H : post 1) : wpX_isPlace post () p0 := by
  subst e0
  unfold wpX_isPlace
  exact br_f (nI_pos (by omega)) (pk_le 4096 p (fun z => absurd z (by omega)) (fun _ => H))
theorem hz_bit : ∀ k, k < 25 → ∀ j, j < 24 → (((nI (2 ^ k - 1) >>> (nI j &&& 31)) &&& 1) = 0 ↔ k ≤ j) := by decide +kernel
theorem hz_orb : ∀ k, k < 24 → nI (2 ^ k - 1) ||| ((1 : Int32) <<< (nI k &&& 31)) = nI (2 ^ (k + 1) - 1) := by decide +kernel
theorem hz_s16 (p : Nat) (hp : p < 4096) : (nI p).toInt16.toInt32 = nI p := by
  apply Int32.toInt_inj.mp
  rw [Int16.toInt_toInt32, nI_toInt (by omega), hz_n]
  unfold hz_I
  rw [Int32.toInt16_ofInt, Int16.toInt_ofInt_of_le (by omega) (by omega)]
theorem hz_has1 {post : Int32 → Prop} {ct sz ks wt : Int32} {a1 a2 a3 a4 a5 a6 a7 a8 a9 a10 a11 a12 a13 : Nat → Int32} {k j : Nat} {p0 : Int32} (hk : k < 25) (hj : j < k) (e0 : p0 = nI j) (H : post 1) : wpX_has post (nI (2 ^ k - 1), ct, sz, ks, wt, a1, a2, a3, a4, a5, a6, a7, a8, a9, a10, a11, a12, a13) p0 := by
  subst e0
  unfold wpX_has
  exact br_f (nI_pos (by omega)) (pk_le 24 j (fun z => absurd z (by omega)) (fun _ => br_f (fun z => absurd ((hz_bit k hk j (by omega)).mp z) (by omega)) H))
theorem hz_has0 {post : Int32 → Prop} {ct sz ks wt : Int32} {a1 a2 a3 a4 a5 a6 a7 a8 a9 a10 a11 a12 a13 : Nat → Int32} {k j : Nat} {p0 : Int32} (hk : k < 25) (hj : k ≤ j) (hj2 : j < 2 ^ 31) (e0 : p0 = nI j) (H : post 0) : wpX_has post (nI (2 ^ k - 1), ct, sz, ks, wt, a1, a2, a3, a4, a5, a6, a7, a8, a9, a10, a11, a12, a13) p0 := by
  subst e0
  unfold wpX_has
  exact br_f (nI_pos hj2) (pk_le 24 j (fun _ => H) (fun z => br_t ((hz_bit k hk j z).mpr hj) H) rfl rfl (by omega) hj2)
theorem hz_add_w {post : Int32 → St2 → Prop} {ct sz ks wt : Int32} {a1 a2 a3 a4 a5 a6 a7 a8 a9 a10 a11 a12 a13 : Nat → Int32} {k p : Nat} {p0 : Int32} (hk : k < 24) (hp : p < 4096) (e0 : p0 = nI p) (H : post (nI k) (nI (2 ^ (k + 1) - 1), ct, sz, ks, wt, upd a1 k (nI p), a2, a3, a4, a5, a6, a7, a8, a9, a10, a11, a12, a13)) : wpX_add post (nI (2 ^ k - 1), ct, sz, ks, wt, a1, a2, a3, a4, a5, a6, a7, a8, a9, a10, a11, a12, a13) p0 := by
  subst e0
  unfold wpX_add
  refine hz_isP hp rfl (br_f (by decide) ?_)
  refine pk_loop (σ := Unit) (fun N i _ => wX_add_13 post (nI p) (nI (2 ^ k - 1)) ct sz ks wt a1 a2 a3 a4 a5 a6 a7 a8 a9 a10 a11 a12 a13 N (nI i)) (fun _ _ => True) k 0 () (by omega) trivial
    (fun N _ _ => pk_le 24 k (fun z => absurd z (by omega)) (fun _ => hz_has0 (by omega) (Nat.le_refl k) (by omega) rfl (br_t rfl (nm_r (hz_orb k hk) ⟨pk_in k 24 hk, nm_e ?_⟩))))
    (fun N i _ hi _ hw => pk_le 24 i (fun z => absurd z (by omega)) (fun _ => hz_has1 (by omega) hi rfl (br_f (by decide) (nm_r (nI_1 i) (hw () trivial)))))
  rw [nI_clamp (by omega), hz_s16 p hp]
  exact H
theorem hz_addF {post : Int32 → St2 → Prop} {ct sz ks wt : Int32} {a1 a2 a3 a4 a5 a6 a7 a8 a9 a10 a11 a12 a13 : Nat → Int32} {p : Nat} {p0 : Int32} (hp : p < 4096) (e0 : p0 = nI p) (H : post (-20000) (nI (2 ^ 24 - 1), ct, sz, ks, wt, a1, a2, a3, a4, a5, a6, a7, a8, a9, a10, a11, a12, a13)) : wpX_add post (nI (2 ^ 24 - 1), ct, sz, ks, wt, a1, a2, a3, a4, a5, a6, a7, a8, a9, a10, a11, a12, a13) p0 := by
  subst e0
  unfold wpX_add
  refine hz_isP hp rfl (br_f (by decide) ?_)
  exact pk_loop (σ := Unit) (fun N i _ => wX_add_13 post (nI p) (nI (2 ^ 24 - 1)) ct sz ks wt a1 a2 a3 a4 a5 a6 a7 a8 a9 a10 a11 a12 a13 N (nI i)) (fun _ _ => True) 24 0 () (by omega) trivial
    (fun N _ _ => pk_le 24 24 (fun _ => H) (fun z => absurd z (by omega)))
    (fun N i _ hi _ hw => pk_le 24 i (fun z => absurd z (by omega)) (fun _ => hz_has1 (by omega) hi rfl (br_f (by decide) (nm_r (nI_1 i) (hw () trivial)))))
theorem hz_rm : nI (2 ^ 24 - 1) &&& (((1 : Int32) <<< ((23 : Int32) &&& 31)) ^^^ (-1)) = nI (2 ^ 23 - 1) := by decide +kernel
theorem hz_remove {post : Int32 → St2 → Prop} {ct sz ks wt : Int32} {a1 a2 a3 a4 a5 a6 a7 a8 a9 a10 a11 a12 a13 : Nat → Int32} (H : post (a1 23) (nI (2 ^ 23 - 1), ct, sz, ks, wt, a1, a2, a3, a4, a5, a6, a7, a8, a9, a10, a11, a12, a13)) : wpX_remove post (nI (2 ^ 24 - 1), ct, sz, ks, wt, a1, a2, a3, a4, a5, a6, a7, a8, a9, a10, a11, a12, a13) 23 := by
  unfold wpX_remove
  exact hz_has1 (k := 24) (j := 23) (by omega) (by omega) rfl (br_f (by decide) (nm_r hz_rm ⟨pk_in 23 24 (by omega), H⟩))
theorem hz_holds {post : Int32 → St2 → Prop} {pr ct sz ks wt : Int32} {a1 a2 a3 a4 a5 a6 a7 a8 a9 a10 a11 a12 a13 : Nat → Int32} {X Y : Nat → Int} {n s x y v : Nat} {h : Nat → Nat} {p0 : Int32} (hn : n ≤ 24) (hs : s ≤ 48) (hb : ∀ j, j < s → h j < n) (hsol : hz_sol pr a1 n X Y 1 s h) (hw : hz_wq n X Y s h x y v) (e0 : p0 = nI (x + 64 * y)) (H : ∀ (ct sz ks wt : Int32) (a2 a3 a4 a5 a6 a7 a8 a9 a10 a11 a12 a13 : Nat → Int32), post (nI v) (pr, ct, sz, ks, wt, a1, a2, a3, a4, a5, a6, a7, a8, a9, a10, a11, a12, a13)) : wpX_holds post (pr, ct, sz, ks, wt, a1, a2, a3, a4, a5, a6, a7, a8, a9, a10, a11, a12, a13) p0 := by
  subst e0
  have x1 := hw.1
  have y1 := hw.2.1
  unfold wpX_holds
  refine hz_isP (show x + 64 * y < 4096 by omega) rfl (br_f (by decide) ?_)
  exact hsol _ _ _ _ _ _ _ _ _ _ _ _ _ _ _ _ _ _ (fun ks wt b2 b3 b4 b5 b7 b8 b9 b10 b11 b12 b13 hx hm => ⟨by decide, by decide, hz_where hn hx hs hm hb hw (hz_rem64 x1 y1) (hz_div64 x1 y1) (H _ _ _ _ _ _ _ _ _ _ _ _ _ _ _ _)⟩)
theorem hz_corners {post : Int32 → St2 → Prop} {pr ct sz ks wt : Int32} {a1 a2 a3 a4 a5 a6 a7 a8 a9 a10 a11 a12 a13 : Nat → Int32} {X Y : Nat → Int} {n s e : Nat} {h : Nat → Nat} {p0 : Int32} (he : e < 6) (hsol : hz_sol pr a1 n X Y e s h) (e0 : p0 = nI e) (H : ∀ (ct sz ks wt : Int32) (a2 a3 a4 a5 a6 a7 a8 a9 a10 a11 a12 a13 : Nat → Int32), post (nI s) (pr, ct, sz, ks, wt, a1, a2, a3, a4, a5, a6, a7, a8, a9, a10, a11, a12, a13)) : wpX_corners post (pr, ct, sz, ks, wt, a1, a2, a3, a4, a5, a6, a7, a8, a9, a10, a11, a12, a13) p0 := by
  subst e0
  unfold wpX_corners
  refine hz_isE he rfl (br_f (by decide) ?_)
  exact hsol _ _ _ _ _ _ _ _ _ _ _ _ _ _ _ _ _ _ (fun ks wt b2 b3 b4 b5 b7 b8 b9 b10 b11 b12 b13 hx hm => H _ _ _ _ _ _ _ _ _ _ _ _ _ _ _ _)
theorem hz_placeAt {post : Int32 → Prop} {pr ct sz ks wt : Int32} {a1 a2 a3 a4 a5 a6 a7 a8 a9 a10 a11 a12 a13 : Nat → Int32} {X Y : Nat → Int} {n s i : Nat} {h : Nat → Nat} {p0 : Int32} (hn : n ≤ 24) (hx : hz_xy n X Y a2 a3) (hs : s ≤ 48) (hm : hz_mh s h a4) (hi : i < s) (hb : h i < n) (e0 : p0 = nI i) (H : post (hz_I (X (h i) + 64 * Y (h i)))) : wpX_placeAt post (pr, ct, sz, ks, wt, a1, a2, a3, a4, a5, a6, a7, a8, a9, a10, a11, a12, a13) p0 := by
  subst e0
  have e : a4 (nI i).toNatClampNeg = nI (h i) := by
    rw [nI_clamp (by omega)]
    exact (hm i hi).1
  unfold wpX_placeAt
  refine ⟨pk_in i 48 (by omega), pk_in (h i) 24 (by omega) e, pk_in i 48 (by omega), pk_in (h i) 24 (by omega) e, ?_⟩
  rw [e, nI_clamp (by omega), (hx _ hb).1, (hx _ hb).2.1, show (64 : Int32) = hz_I 64 by decide, hz_mul, hz_add]
  exact H
theorem hz_cornerI {post : Int32 → St2 → Prop} {pr ct sz ks wt : Int32} {a1 a2 a3 a4 a5 a6 a7 a8 a9 a10 a11 a12 a13 : Nat → Int32} {X Y : Nat → Int} {n s e i : Nat} {h : Nat → Nat} {p0 p1 : Int32} (he : e < 6) (hn : n ≤ 24) (hs : s ≤ 48) (hsol : hz_sol pr a1 n X Y e s h) (hi : i < s) (hb : h i < n) (e0 : p0 = nI e) (e1 : p1 = nI i) (H : ∀ (ct sz ks wt : Int32) (a2 a3 a4 a5 a6 a7 a8 a9 a10 a11 a12 a13 : Nat → Int32), post (hz_I (X (h i) + 64 * Y (h i))) (pr, ct, sz, ks, wt, a1, a2, a3, a4, a5, a6, a7, a8, a9, a10, a11, a12, a13)) : wpX_corner post (pr, ct, sz, ks, wt, a1, a2, a3, a4, a5, a6, a7, a8, a9, a10, a11, a12, a13) p0 p1 := by
  subst e0 e1
  unfold wpX_corner
  refine hz_isE he rfl (br_f (by decide) ?_)
  exact hsol _ _ _ _ _ _ _ _ _ _ _ _ _ _ _ _ _ _ (fun ks wt b2 b3 b4 b5 b7 b8 b9 b10 b11 b12 b13 hx hm => br_f (nI_pos (by omega)) (pk_le s i (fun z => absurd z (by omega)) (fun _ => hz_placeAt hn hx hs hm hi hb rfl (H _ _ _ _ _ _ _ _ _ _ _ _ _ _ _ _))))
theorem hz_cornerO {post : Int32 → St2 → Prop} {pr ct sz ks wt : Int32} {a1 a2 a3 a4 a5 a6 a7 a8 a9 a10 a11 a12 a13 : Nat → Int32} {X Y : Nat → Int} {n s e i : Nat} {h : Nat → Nat} {p0 p1 : Int32} (he : e < 6) (hs : s ≤ 48) (hsol : hz_sol pr a1 n X Y e s h) (hi : s ≤ i) (hi2 : i < 100) (e0 : p0 = nI e) (e1 : p1 = nI i) (H : ∀ (ct sz ks wt : Int32) (a2 a3 a4 a5 a6 a7 a8 a9 a10 a11 a12 a13 : Nat → Int32), post (-10000) (pr, ct, sz, ks, wt, a1, a2, a3, a4, a5, a6, a7, a8, a9, a10, a11, a12, a13)) : wpX_corner post (pr, ct, sz, ks, wt, a1, a2, a3, a4, a5, a6, a7, a8, a9, a10, a11, a12, a13) p0 p1 := by
  subst e0 e1
  unfold wpX_corner
  refine hz_isE he rfl (br_f (by decide) ?_)
  exact hsol _ _ _ _ _ _ _ _ _ _ _ _ _ _ _ _ _ _ (fun ks wt b2 b3 b4 b5 b7 b8 b9 b10 b11 b12 b13 hx hm => br_f (nI_pos (by omega)) (pk_le s i (fun _ => H _ _ _ _ _ _ _ _ _ _ _ _ _ _ _ _) (fun z => absurd z (by omega))))
/-- the double area of the fan, its first k triangles -/
def hz_SA (X Y : Nat → Int) (h : Nat → Nat) : Nat → Int
  | 0 => 0
  | k + 1 => hz_SA X Y h k + hz_cr X Y (h 0) (h (k + 1)) (h (k + 2))
theorem hz_areaNow {post : Int32 → Prop} {pr ct ks wt : Int32} {a1 a2 a3 a4 a5 a6 a7 a8 a9 a10 a11 a12 a13 : Nat → Int32} {X Y : Nat → Int} {n s : Nat} {h : Nat → Nat} (hn : n ≤ 24) (hx : hz_xy n X Y a2 a3) (hs : s ≤ 48) (hm : hz_mh s h a4) (hb : ∀ j, j < s → h j < n) (H : post (hz_I (hz_SA X Y h (s - 2)))) : wpX_areaNow post (pr, ct, nI s, ks, wt, a1, a2, a3, a4, a5, a6, a7, a8, a9, a10, a11, a12, a13) := by
  have L := pk_loop (σ := Unit) (fun N k _ => wX_areaNow_4 post pr ct (nI s) ks wt a1 a2 a3 a4 a5 a6 a7 a8 a9 a10 a11 a12 a13 N (hz_I (hz_SA X Y h k)) (nI (k + 1))) (fun _ _ => True) (s - 2) 0 () (by omega) trivial
    (fun N _ _ => pk_le s (s - 2 + 1 + 1) (fun _ => H) (fun z => absurd z (by omega)) rfl (nI_1 _))
    (fun N k _ hk _ hw => pk_le s (k + 1 + 1) (fun z => absurd z (by omega)) (fun _ => ⟨pk_in (k + 1) 48 (by omega), pk_in (k + 1 + 1) 48 (by omega) (nI_1 _), hz_turn hn hx (hb 0 (by omega)) (hb (k + 1) (by omega)) (hb (k + 2) (by omega)) (hm 0 (by omega)).1 (by rw [nI_clamp (by omega)]; exact (hm _ (by omega)).1) (by rw [nI_1, nI_clamp (by omega)]; exact (hm _ (by omega)).1) (fun _ => nm_r (hz_add _ _) (nm_r (nI_1 _) (hw () trivial)))⟩) rfl (nI_1 _))
  exact L
theorem hz_area {post : Int32 → St2 → Prop} {pr ct sz ks wt : Int32} {a1 a2 a3 a4 a5 a6 a7 a8 a9 a10 a11 a12 a13 : Nat → Int32} {X Y : Nat → Int} {n s e : Nat} {h : Nat → Nat} {p0 : Int32} (he : e < 6) (hn : n ≤ 24) (hs : s ≤ 48) (hb : ∀ j, j < s → h j < n) (hsol : hz_sol pr a1 n X Y e s h) (e0 : p0 = nI e) (H : ∀ (ct sz ks wt : Int32) (a2 a3 a4 a5 a6 a7 a8 a9 a10 a11 a12 a13 : Nat → Int32), post (hz_I (hz_SA X Y h (s - 2))) (pr, ct, sz, ks, wt, a1, a2, a3, a4, a5, a6, a7, a8, a9, a10, a11, a12, a13)) : wpX_area post (pr, ct, sz, ks, wt, a1, a2, a3, a4, a5, a6, a7, a8, a9, a10, a11, a12, a13) p0 := by
  subst e0
  unfold wpX_area
  refine hz_isE he rfl (br_f (by decide) ?_)
  exact hsol _ _ _ _ _ _ _ _ _ _ _ _ _ _ _ _ _ _ (fun ks wt b2 b3 b4 b5 b7 b8 b9 b10 b11 b12 b13 hx hm => hz_areaNow hn hx hs hm hb (H _ _ _ _ _ _ _ _ _ _ _ _ _ _ _ _))
theorem hz_borderW {post : Int32 → St2 → Prop} {pr ct sz ks wt : Int32} {a1 a2 a3 a4 a5 a6 a7 a8 a9 a10 a11 a12 a13 : Nat → Int32} {b : Int32} (hbo : hz_bo pr a1 b) (H : ∀ (ct sz ks wt : Int32) (a2 a3 a4 a5 a6 a7 a8 a9 a10 a11 a12 a13 : Nat → Int32), post b (pr, ct, sz, ks, wt, a1, a2, a3, a4, a5, a6, a7, a8, a9, a10, a11, a12, a13)) : wpX_border post (pr, ct, sz, ks, wt, a1, a2, a3, a4, a5, a6, a7, a8, a9, a10, a11, a12, a13) := by
  unfold wpX_border
  exact hbo _ _ _ _ _ _ _ _ _ _ _ _ _ _ _ _ _ _ H
theorem hz_layer0 {post : Int32 → St2 → Prop} {ct sz ks wt : Int32} {a1 a2 a3 a4 a5 a6 a7 a8 a9 a10 a11 a12 a13 : Nat → Int32} {k j : Nat} {b p0 : Int32} (hk : k < 25) (hj : j < k) (e0 : p0 = nI j) (hbo : hz_bo (nI (2 ^ k - 1)) a1 b) (hb : ¬ ((b >>> (nI j &&& 31)) &&& 1) = 0) (H : ∀ (ct sz ks wt : Int32) (a2 a3 a4 a5 a6 a7 a8 a9 a10 a11 a12 a13 : Nat → Int32), post 0 (nI (2 ^ k - 1), ct, sz, ks, wt, a1, a2, a3, a4, a5, a6, a7, a8, a9, a10, a11, a12, a13)) : wpX_layer post (nI (2 ^ k - 1), ct, sz, ks, wt, a1, a2, a3, a4, a5, a6, a7, a8, a9, a10, a11, a12, a13) p0 := by
  subst e0
  unfold wpX_layer
  refine hz_has1 hk hj rfl (br_f (by decide) ?_)
  exact hbo _ _ _ _ _ _ _ _ _ _ _ _ _ _ _ _ _ _ (fun ct sz ks wt a2 a3 a4 a5 a6 a7 a8 a9 a10 a11 a12 a13 => ⟨1, br_f hb (H _ _ _ _ _ _ _ _ _ _ _ _ _ _ _ _)⟩)
theorem hz_layer1 {post : Int32 → St2 → Prop} {ct sz ks wt : Int32} {a1 a2 a3 a4 a5 a6 a7 a8 a9 a10 a11 a12 a13 : Nat → Int32} {k j : Nat} {b c d p0 : Int32} (hk : k < 25) (hj : j < k) (e0 : p0 = nI j) (hbo : hz_bo (nI (2 ^ k - 1)) a1 b) (hb : ((b >>> (nI j &&& 31)) &&& 1) = 0) (hd : nI (2 ^ k - 1) &&& (b ^^^ (-1)) = d) (hbo2 : hz_bo d a1 c) (hc : ¬ ((c >>> (nI j &&& 31)) &&& 1) = 0) (H : ∀ (ct sz ks wt : Int32) (a2 a3 a4 a5 a6 a7 a8 a9 a10 a11 a12 a13 : Nat → Int32), post 1 (nI (2 ^ k - 1), ct, sz, ks, wt, a1, a2, a3, a4, a5, a6, a7, a8, a9, a10, a11, a12, a13)) : wpX_layer post (nI (2 ^ k - 1), ct, sz, ks, wt, a1, a2, a3, a4, a5, a6, a7, a8, a9, a10, a11, a12, a13) p0 := by
  subst e0
  unfold wpX_layer
  refine hz_has1 hk hj rfl (br_f (by decide) ?_)
  exact hbo _ _ _ _ _ _ _ _ _ _ _ _ _ _ _ _ _ _ (fun ct sz ks wt a2 a3 a4 a5 a6 a7 a8 a9 a10 a11 a12 a13 => ⟨2, br_t hb (nm_r hd (hbo2 _ _ _ _ _ _ _ _ _ _ _ _ _ _ _ _ _ _ (fun ct sz ks wt a2 a3 a4 a5 a6 a7 a8 a9 a10 a11 a12 a13 => nm_e (br_f hc (H _ _ _ _ _ _ _ _ _ _ _ _ _ _ _ _)))))⟩)
theorem hz_layerB {post : Int32 → St2 → Prop} {ct sz ks wt : Int32} {a1 a2 a3 a4 a5 a6 a7 a8 a9 a10 a11 a12 a13 : Nat → Int32} {k j : Nat} {p0 : Int32} (hk : k < 25) (hj : k ≤ j) (hj2 : j < 2 ^ 31) (e0 : p0 = nI j) (H : post (-10000) (nI (2 ^ k - 1), ct, sz, ks, wt, a1, a2, a3, a4, a5, a6, a7, a8, a9, a10, a11, a12, a13)) : wpX_layer post (nI (2 ^ k - 1), ct, sz, ks, wt, a1, a2, a3, a4, a5, a6, a7, a8, a9, a10, a11, a12, a13) p0 := by
  unfold wpX_layer
  exact hz_has0 hk hj hj2 e0 (br_t rfl H)
/-- how far a is from (x, y), squared -/
def hz_D (X Y : Nat → Int) (x y : Int) (a : Nat) : Int := (X a - x) * (X a - x) + (Y a - y) * (Y a - y)
def hz_dq (n : Nat) (X Y : Nat → Int) (x y : Nat) (dq : Nat → Nat → Nat) : Prop := ∀ a b, a < n → b < n → (dq a b = 0 → hz_D X Y x y a ≤ hz_D X Y x y b) ∧ (dq a b = 1 → hz_D X Y x y b < hz_D X Y x y a)
def hz_tg (sp dq : Nat → Nat → Nat) (h : Nat → Nat) (s : Nat) : Nat → Nat → Nat → Option Nat
  | 0, _, _ => none
  | N + 1, b, i => if s ≤ i then some b else hz_3 (sp (h b) (h i)) (hz_tg sp dq h s N b (i + 1)) (hz_2 (dq (h b) (h i)) (hz_tg sp dq h s N b (i + 1)) (hz_tg sp dq h s N i (i + 1))) (hz_tg sp dq h s N i (i + 1))
theorem hz_DB {n a x y : Nat} {X Y : Nat → Int} {a2 a3 : Nat → Int32} (hx : hz_xy n X Y a2 a3) (ha : a < n) (h1 : x < 64) (h2 : y < 64) : hz_B (hz_D X Y x y a) := by
  obtain ⟨_, _, a3, a4, a5, a6⟩ := hx a ha
  have p := hz_m63 (a := X a - (x : Int)) (b := X a - (x : Int)) (by omega) (by omega) (by omega) (by omega)
  have q := hz_m63 (a := Y a - (y : Int)) (b := Y a - (y : Int)) (by omega) (by omega) (by omega) (by omega)
  unfold hz_D
  constructor <;> omega
theorem hz_tg_w {post : Int32 → St2 → Prop} {pr ct ks wt : Int32} {a1 a2 a3 a4 a5 a6 a7 a8 a9 a10 a11 a12 a13 : Nat → Int32} {X Y : Nat → Int} {n s x y r : Nat} {h : Nat → Nat} {sp dq : Nat → Nat → Nat} (hn : n ≤ 24) (hx : hz_xy n X Y a2 a3) (hs : s ≤ 48) (hm : hz_mh s h a4) (hb : ∀ j, j < s → h j < n) (x1 : x < 64) (y1 : y < 64) (hp : hz_sp n X Y x y sp) (hd : hz_dq n X Y x y dq) (H : post (hz_I (X (h r) + 64 * Y (h r))) (pr, ct, nI s, ks, wt, a1, a2, a3, a4, a5, a6, a7, a8, a9, a10, a11, a12, a13)) : ∀ N b i, b < s → i ≤ s → hz_tg sp dq h s N b i = some r → wX_tangent_56 post (nI x) (nI y) pr ct (nI s) ks wt a1 a2 a3 a4 a5 a6 a7 a8 a9 a10 a11 a12 a13 N (nI b) (nI i) := by
  intro N
  induction N with
  | zero => intro b i _ _ hq; exact absurd hq (by simp [hz_tg])
  | succ N ih =>
    intro b i hbs his hq
    rw [hz_tg] at hq
    refine pk_le s i (fun z => ?_) (fun z => ?_)
    · rw [if_pos z] at hq
      have hr := Option.some.inj hq
      subst hr
      exact hz_placeAt hn hx hs hm hbs (hb _ hbs) rfl H
    · rw [if_neg (by omega)] at hq
      have bb := hb b hbs
      have bi := hb i z
      have eb : a4 (nI b).toNatClampNeg = nI (h b) := by
        rw [nI_clamp (by omega)]
        exact (hm b hbs).1
      have ei : a4 (nI i).toNatClampNeg = nI (h i) := by
        rw [nI_clamp (by omega)]
        exact (hm i z).1
      have cb : (nI (h b)).toNatClampNeg = h b := nI_clamp (by omega)
      have ci : (nI (h i)).toNatClampNeg = h i := nI_clamp (by omega)
      have vb := pk_in (h b) 24 (by omega) rfl
      have vi := pk_in (h i) 24 (by omega) rfl
      have B1 := hz_cpB hx bb bi x1 y1
      have B2 := hz_DB hx bb x1 y1
      have B3 := hz_DB hx bi x1 y1
      have P := hp _ _ bb bi
      have Q := hd _ _ bb bi
      refine ⟨pk_in b 48 (by omega), nm_r eb ⟨pk_in i 48 (by omega), nm_r ei ⟨vb, vi, vb, vi, nm_r (e' := hz_I (hz_cp X Y x y (h b) (h i))) ?_ ⟨vb, vb, vb, vb, nm_r (e' := hz_I (hz_D X Y x y (h b))) ?_ ⟨vi, vi, vi, vi, nm_r (e' := hz_I (hz_D X Y x y (h i))) ?_ ?_⟩⟩⟩⟩⟩
      · rw [cb, ci, (hx _ bb).1, (hx _ bb).2.1, (hx _ bi).1, (hx _ bi).2.1, hz_n x, hz_n y]
        simp only [hz_sub, hz_mul]
        congr 1
        unfold hz_cp
        grind
      · rw [cb, (hx _ bb).1, (hx _ bb).2.1, hz_n x, hz_n y]
        simp only [hz_sub, hz_mul, hz_add]
        rfl
      · rw [ci, (hx _ bi).1, (hx _ bi).2.1, hz_n x, hz_n y]
        simp only [hz_sub, hz_mul, hz_add]
        rfl
      · have B1' : hz_B (hz_cp X Y x y (h b) (h i)) := ⟨by omega, by omega⟩
        rcases hz_3E hq with ⟨ht, hq⟩ | ⟨ht, hq⟩ | ⟨ht, hq⟩
        · have := P.1 ht
          exact zb_pos B1' (fun k => absurd k (by omega)) (fun _ => zb_z B1' (fun k => absurd k (by omega)) (fun _ => nm_r (nI_1 i) (ih _ _ hbs (by omega) hq)))
        · have := P.2.1 ht
          refine zb_pos B1' (fun k => absurd k (by omega)) (fun _ => zb_z B1' (fun _ => ?_) (fun k => absurd k (by omega)))
          rcases hz_2E hq with ⟨hu, hq⟩ | ⟨hu, hq⟩
          · have := Q.1 hu
            exact zb_le B2 B3 (fun _ => nm_r (nI_1 i) (ih _ _ hbs (by omega) hq)) (fun k => absurd k (by omega))
          · have := Q.2 hu
            exact zb_le B2 B3 (fun k => absurd k (by omega)) (fun _ => nm_r (nI_1 i) (ih _ _ z (by omega) hq))
        · have := P.2.2 ht
          exact zb_pos B1' (fun _ => nm_r (nI_1 i) (ih _ _ z (by omega) hq)) (fun k => absurd k (by omega))
theorem hz_tangent {post : Int32 → St2 → Prop} {pr ct sz ks wt : Int32} {a1 a2 a3 a4 a5 a6 a7 a8 a9 a10 a11 a12 a13 : Nat → Int32} {X Y : Nat → Int} {n s x y r : Nat} {h : Nat → Nat} {sp dq : Nat → Nat → Nat} {p0 : Int32} (hn : n ≤ 24) (hs : s ≤ 48) (h0 : 0 < s) (hb : ∀ j, j < s → h j < n) (hpr : ¬ pr = 0) (hsol : hz_sol pr a1 n X Y 2 s h) (hw : hz_wq n X Y s h x y 0) (hp : hz_sp n X Y x y sp) (hd : hz_dq n X Y x y dq) (hr : hz_tg sp dq h s 49 0 1 = some r) (e0 : p0 = nI (x + 64 * y)) (H : ∀ (ct sz ks wt : Int32) (a2 a3 a4 a5 a6 a7 a8 a9 a10 a11 a12 a13 : Nat → Int32), post (hz_I (X (h r) + 64 * Y (h r))) (pr, ct, sz, ks, wt, a1, a2, a3, a4, a5, a6, a7, a8, a9, a10, a11, a12, a13)) : wpX_tangent post (pr, ct, sz, ks, wt, a1, a2, a3, a4, a5, a6, a7, a8, a9, a10, a11, a12, a13) p0 := by
  subst e0
  have x1 := hw.1
  have y1 := hw.2.1
  unfold wpX_tangent
  refine hz_isP (show x + 64 * y < 4096 by omega) rfl (br_f (by decide) (br_f hpr ?_))
  exact hsol _ _ _ _ _ _ _ _ _ _ _ _ _ _ _ _ _ _ (fun ks wt b2 b3 b4 b5 b7 b8 b9 b10 b11 b12 b13 hx hm => ⟨by decide, nm_r (hz_rem64 x1 y1) ⟨by decide, nm_r (hz_div64 x1 y1) (hz_where hn hx hs hm hb hw rfl rfl (br_t (by decide) ⟨49, hz_tg_w hn hx hs hm hb x1 y1 hp hd (H _ _ _ _ _ _ _ _ _ _ _ _ _ _ _ _) 49 0 1 h0 (by omega) hr⟩))⟩⟩)
theorem hz_tangentB {post : Int32 → St2 → Prop} {pr ct sz ks wt : Int32} {a1 a2 a3 a4 a5 a6 a7 a8 a9 a10 a11 a12 a13 : Nat → Int32} {X Y : Nat → Int} {n s x y v : Nat} {h : Nat → Nat} {p0 : Int32} (hn : n ≤ 24) (hs : s ≤ 48) (hb : ∀ j, j < s → h j < n) (hpr : ¬ pr = 0) (hsol : hz_sol pr a1 n X Y 2 s h) (hw : hz_wq n X Y s h x y v) (hv0 : 0 < v) (hv1 : v < 24) (e0 : p0 = nI (x + 64 * y)) (H : ∀ (ct sz ks wt : Int32) (a2 a3 a4 a5 a6 a7 a8 a9 a10 a11 a12 a13 : Nat → Int32), post (-10000) (pr, ct, sz, ks, wt, a1, a2, a3, a4, a5, a6, a7, a8, a9, a10, a11, a12, a13)) : wpX_tangent post (pr, ct, sz, ks, wt, a1, a2, a3, a4, a5, a6, a7, a8, a9, a10, a11, a12, a13) p0 := by
  subst e0
  have x1 := hw.1
  have y1 := hw.2.1
  unfold wpX_tangent
  refine hz_isP (show x + 64 * y < 4096 by omega) rfl (br_f (by decide) (br_f hpr ?_))
  exact hsol _ _ _ _ _ _ _ _ _ _ _ _ _ _ _ _ _ _ (fun ks wt b2 b3 b4 b5 b7 b8 b9 b10 b11 b12 b13 hx hm => ⟨by decide, nm_r (hz_rem64 x1 y1) ⟨by decide, nm_r (hz_div64 x1 y1) (hz_where hn hx hs hm hb hw rfl rfl (br_f (nI_nle hv0 (by omega)) (H _ _ _ _ _ _ _ _ _ _ _ _ _ _ _ _)))⟩⟩)
end
section
/-- how far the corner j is along (dx, dy) -/
def hz_f (X Y : Nat → Int) (h : Nat → Nat) (dx dy : Int) (j : Nat) : Int := dx * X (h j) + dy * Y (h j)
theorem hz_along {post : Int32 → Prop} {pr ct ks wt : Int32} {a1 a2 a3 a4 a5 a6 a7 a8 a9 a10 a11 a12 a13 : Nat → Int32} {X Y : Nat → Int} {n s i : Nat} {h : Nat → Nat} {dx dy : Int} {p0 p1 p2 : Int32} (hn : n ≤ 24) (hx : hz_xy n X Y a2 a3) (hs0 : 0 < s) (hs : s ≤ 48) (hm : hz_mh s h a4) (hb : ∀ j, j < s → h j < n) (hi : i ≤ 200) (e0 : p0 = nI i) (e1 : p1 = hz_I dx) (e2 : p2 = hz_I dy) (H : post (hz_I (hz_f X Y h dx dy ((i + s) % s)))) : wpX_alongAt post (pr, ct, nI s, ks, wt, a1, a2, a3, a4, a5, a6, a7, a8, a9, a10, a11, a12, a13) p0 p1 p2 := by
  subst e0 e1 e2
  have er : nI i + nI s - (nI i + nI s) / nI s * nI s = nI ((i + s) % s) := by
    rw [nI_add]
    exact pk_rem (by omega) hs0 (by omega)
  have hr := Nat.mod_lt (i + s) hs0
  have hbr := hb _ hr
  unfold wpX_alongAt
  refine ⟨nI_ne0 hs0 (by omega), pk_in ((i + s) % s) 48 (by omega) er, nm_r (e' := nI (h ((i + s) % s))) ?_ ⟨pk_in _ 24 (by omega) rfl, pk_in _ 24 (by omega) rfl, ?_⟩⟩
  · rw [er, nI_clamp (by omega)]
    exact (hm _ hr).1
  · rw [nI_clamp (by omega), (hx _ hbr).1, (hx _ hbr).2.1, hz_mul, hz_mul, hz_add]
    exact H
def hz_gt (s : Nat) (f : Nat → Int) (gt : Nat → Nat → Nat) : Prop := ∀ a b, a < s → b < s → (gt a b = 0 → f a ≤ f b) ∧ (gt a b = 1 → f b < f a)
def hz_ex (gt : Nat → Nat → Nat) (s st : Nat) : Nat → Nat → Nat → Option Nat
  | 0, _, _ => none
  | N + 1, i, k => hz_g (decide (i ≤ 100 ∧ k ≤ 100)) (if s ≤ k then some i else hz_2 (gt ((i + st + s) % s) ((i + s) % s)) (some i) (hz_ex gt s st N ((i + st) % s) (k + 1)))
theorem hz_ex_w {post : Int32 → St2 → Prop} {pr ct ks wt : Int32} {a1 a2 a3 a4 a5 a6 a7 a8 a9 a10 a11 a12 a13 : Nat → Int32} {X Y : Nat → Int} {n s st r : Nat} {h : Nat → Nat} {dx dy : Int} {gt : Nat → Nat → Nat} (hn : n ≤ 24) (hx : hz_xy n X Y a2 a3) (hs0 : 0 < s) (hs : s ≤ 48) (hst : st ≤ 48) (hm : hz_mh s h a4) (hb : ∀ j, j < s → h j < n) (hf : ∀ j, j < s → hz_B (hz_f X Y h dx dy j)) (hg : hz_gt s (hz_f X Y h dx dy) gt) (H : post (hz_I (hz_f X Y h dx dy ((r + s) % s))) (pr, ct, nI s, ks, wt, a1, a2, a3, a4, a5, a6, a7, a8, a9, a10, a11, a12, a13)) : ∀ N i k, hz_ex gt s st N i k = some r → wX_extreme_78 post (hz_I dx) (hz_I dy) (nI st) pr ct (nI s) ks wt a1 a2 a3 a4 a5 a6 a7 a8 a9 a10 a11 a12 a13 N (nI i) (nI k) := by
  intro N
  induction N with
  | zero => intro i k hq; exact absurd hq (by simp [hz_ex])
  | succ N ih =>
    intro i k hq
    rw [hz_ex] at hq
    obtain ⟨hv, hq⟩ := hz_gE hq
    obtain ⟨v1, v2⟩ := of_decide_eq_true hv
    have fin : i = r → wX_extreme_125 post (hz_I dx) (hz_I dy) (nI i) pr ct (nI s) ks wt a1 a2 a3 a4 a5 a6 a7 a8 a9 a10 a11 a12 a13 := by
      intro e
      subst e
      unfold wX_extreme_125
      exact hz_along hn hx hs0 hs hm hb (by omega) rfl rfl rfl H
    refine pk_le s k (fun z => ?_) (fun z => ?_)
    · rw [if_pos z] at hq
      exact fin (Option.some.inj hq)
    · rw [if_neg (by omega)] at hq
      have r1 := Nat.mod_lt (i + st + s) hs0
      have r2 := Nat.mod_lt (i + s) hs0
      have G := hg _ _ r1 r2
      refine hz_along hn hx hs0 hs hm hb (show i + st ≤ 200 by omega) (nI_add i st) rfl rfl (hz_along hn hx hs0 hs hm hb (show i ≤ 200 by omega) rfl rfl rfl ?_)
      rcases hz_2E hq with ⟨hu, hq⟩ | ⟨hu, hq⟩
      · have := G.1 hu
        exact zb_le (hf _ r1) (hf _ r2) (fun _ => fin (Option.some.inj hq)) (fun k => absurd k (by omega))
      · have := G.2 hu
        refine zb_le (hf _ r1) (hf _ r2) (fun k => absurd k (by omega)) (fun _ => ⟨nI_ne0 hs0 (by omega), nm_r (e' := nI ((i + st) % s)) ?_ (nm_r (nI_1 k) (ih _ _ hq))⟩)
        rw [nI_add]
        exact pk_rem (by omega) hs0 (by omega)
theorem hz_extreme {post : Int32 → St2 → Prop} {pr ct sz ks wt : Int32} {a1 a2 a3 a4 a5 a6 a7 a8 a9 a10 a11 a12 a13 : Nat → Int32} {X Y : Nat → Int} {n s r : Nat} {h : Nat → Nat} {dx dy : Int} {gt : Nat → Nat → Nat} {p0 p1 : Int32} (hn : n ≤ 24) (hs0 : 0 < s) (hs : s ≤ 48) (hb : ∀ j, j < s → h j < n) (hpr : ¬ pr = 0) (d1 : -64 ≤ dx) (d2 : dx ≤ 64) (d3 : -64 ≤ dy) (d4 : dy ≤ 64) (hsol : hz_sol pr a1 n X Y 0 s h) (hf : ∀ j, j < s → hz_B (hz_f X Y h dx dy j)) (hg : hz_gt s (hz_f X Y h dx dy) gt) (hq : hz_2 (gt ((1 + s) % s) ((0 + s) % s)) (hz_ex gt s (s - 1) 49 0 0) (hz_ex gt s 1 49 0 0) = some r) (e0 : p0 = hz_I dx) (e1 : p1 = hz_I dy) (H : ∀ (ct sz ks wt : Int32) (a2 a3 a4 a5 a6 a7 a8 a9 a10 a11 a12 a13 : Nat → Int32), post (hz_I (hz_f X Y h dx dy ((r + s) % s))) (pr, ct, sz, ks, wt, a1, a2, a3, a4, a5, a6, a7, a8, a9, a10, a11, a12, a13)) : wpX_extreme post (pr, ct, sz, ks, wt, a1, a2, a3, a4, a5, a6, a7, a8, a9, a10, a11, a12, a13) p0 p1 := by
  subst e0 e1
  have b1 : hz_B dx := ⟨by omega, by omega⟩
  have b2 : hz_B dy := ⟨by omega, by omega⟩
  have em : (-64 : Int32) = hz_I (-64) := by decide
  have ep : (64 : Int32) = hz_I 64 := by decide
  have r1 := Nat.mod_lt (1 + s) hs0
  have r2 := Nat.mod_lt (0 + s) hs0
  have G := hg _ _ r1 r2
  unfold wpX_extreme
  rw [em, ep]
  refine br_f hpr (zb_lt b1 (by decide) (fun k => absurd k (by omega)) (fun _ => zb_lt (by decide) b1 (fun k => absurd k (by omega)) (fun _ => zb_lt b2 (by decide) (fun k => absurd k (by omega)) (fun _ => zb_le b2 (by decide) (fun _ => ?_) (fun k => absurd k (by omega))))))
  refine hsol _ _ _ _ _ _ _ _ _ _ _ _ _ _ _ _ _ _ (fun ks wt b2 b3 b4 b5 b7 b8 b9 b10 b11 b12 b13 hx hm => ?_)
  refine hz_along hn hx hs0 hs hm hb (show 1 ≤ 200 by omega) rfl rfl rfl (hz_along hn hx hs0 hs hm hb (show 0 ≤ 200 by omega) rfl rfl rfl ?_)
  rcases hz_2E hq with ⟨hu, hq⟩ | ⟨hu, hq⟩
  · have := G.1 hu
    exact zb_le (hf _ r1) (hf _ r2) (fun _ => nm_r (pk_sub (show 1 ≤ s by omega)) ⟨49, hz_ex_w hn hx hs0 hs (by omega) hm hb hf hg (H _ _ _ _ _ _ _ _ _ _ _ _ _ _ _ _) 49 0 0 hq⟩) (fun k => absurd k (by omega))
  · have := G.2 hu
    exact zb_le (hf _ r1) (hf _ r2) (fun k => absurd k (by omega)) (fun _ => ⟨49, hz_ex_w (st := 1) hn hx hs0 hs (by omega) hm hb hf hg (H _ _ _ _ _ _ _ _ _ _ _ _ _ _ _ _) 49 0 0 hq⟩)
theorem hz_agree {post : Int32 → St2 → Prop} {pr ct sz ks wt : Int32} {a1 a2 a3 a4 a5 a6 a7 a8 a9 a10 a11 a12 a13 : Nat → Int32} {X Y : Nat → Int} {n s e f : Nat} {h : Nat → Nat} {p0 p1 : Int32} (he : e < 6) (hf : f < 6) (hs : s ≤ 48) (hsol : hz_sol pr a1 n X Y e s h) (hsol2 : hz_sol pr a1 n X Y f s h) (e0 : p0 = nI e) (e1 : p1 = nI f) (H : ∀ (ct sz ks wt : Int32) (a2 a3 a4 a5 a6 a7 a8 a9 a10 a11 a12 a13 : Nat → Int32), post 1 (pr, ct, sz, ks, wt, a1, a2, a3, a4, a5, a6, a7, a8, a9, a10, a11, a12, a13)) : wpX_agree post (pr, ct, sz, ks, wt, a1, a2, a3, a4, a5, a6, a7, a8, a9, a10, a11, a12, a13) p0 p1 := by
  subst e0 e1
  unfold wpX_agree
  refine hz_isE he rfl (br_f (by decide) (hz_isE hf rfl (br_f (by decide) ?_)))
  refine hsol _ _ _ _ _ _ _ _ _ _ _ _ _ _ _ _ _ _ (fun ks wt b2 b3 b4 b5 b7 b8 b9 b10 b11 b12 b13 hx hm => ?_)
  refine pk_loop (fun N i t => wX_agree_33 post (nI f) (nI s) pr (nI n) (nI s) ks wt N (nI i) a1 b2 b3 b4 b5 t b7 b8 b9 b10 b11 b12 b13) (fun i t => hz_mh i h t) s 0 a6 (by omega) (hz_mh0 _ _)
    (fun N t ht => pk_le s s (fun _ => ?_) (fun z => absurd z (by omega)))
    (fun N i t hi ht hw => pk_le s i (fun z => absurd z (by omega)) (fun _ => ⟨pk_in i 48 (by omega), pk_in i 48 (by omega), nm_e (nm_r (nI_1 i) ?_)⟩))
  · refine hsol2 _ _ _ _ _ _ _ _ _ _ _ _ _ _ _ _ _ _ (fun ks wt c2 c3 c4 c5 c7 c8 c9 c10 c11 c12 c13 hx2 hm2 => br_t rfl ?_)
    exact pk_loop (σ := Unit) (fun N i _ => wX_agree_89 post pr (nI n) (nI s) ks wt a1 c2 c3 c4 c5 t c7 c8 c9 c10 c11 c12 c13 N 1 (nI i)) (fun _ _ => True) s 0 () (by omega) trivial
      (fun N _ _ => pk_le s s (fun _ => ⟨rfl, H _ _ _ _ _ _ _ _ _ _ _ _ _ _ _ _⟩) (fun z => absurd z (by omega)))
      (fun N i _ hi _ hw => pk_le s i (fun z => absurd z (by omega)) (fun _ => br_f (by decide) ⟨pk_in i 48 (by omega), pk_in i 48 (by omega), br_t (by rw [nI_clamp (by omega), (ht i hi).1, (hm2 i hi).1]) (nm_r (nI_1 i) (hw () trivial))⟩))
  · rw [nI_clamp (show i < 2 ^ 31 by omega), (hm i hi).1, hz_v8 _ (hm i hi).2]
    refine hw _ (fun j hj => ?_)
    by_cases e : j = i
    · rw [e, pk_us]
      exact ⟨rfl, (hm i hi).2⟩
    · rw [pk_un e]
      exact ht j (by omega)
theorem hz_217 {post : Int32 → St2 → Prop} {J56 : Int32 → Int32 → Int32 → Prop} {pr ct sz ks wt : Int32} {a1 a2 a3 a4 a5 a6 a7 a8 a9 a10 a11 a12 a13 : Nat → Int32} {x2 : Int32} {i : Nat} {v D b : Int} (hv : hz_B v) (hD : hz_B D) (hb : hz_B b) (h1 : v ≤ D) (h2 : b ≤ D) (H : J56 (hz_I D) x2 (nI (i + 1))) : (hz_I D ≤ hz_I b → wX_farthest_217 post J56 x2 (nI i) (hz_I v) (hz_I D) (hz_I b) pr ct sz ks wt a1 a2 a3 a4 a5 a6 a7 a8 a9 a10 a11 a12 a13) ∧ (¬ hz_I D ≤ hz_I b → wX_farthest_217 post J56 x2 (nI i) (hz_I v) (hz_I D) (hz_I D) pr ct sz ks wt a1 a2 a3 a4 a5 a6 a7 a8 a9 a10 a11 a12 a13) := by
  have K : wX_farthest_217 post J56 x2 (nI i) (hz_I v) (hz_I D) (hz_I D) pr ct sz ks wt a1 a2 a3 a4 a5 a6 a7 a8 a9 a10 a11 a12 a13 := by
    unfold wX_farthest_217 wX_farthest_230
    exact zb_le hv hD (fun _ => zb_le hD hD (fun _ => nm_r (nI_1 i) H) (fun k => absurd k (by omega))) (fun k => absurd k (by omega))
  refine zb_le hD hb (fun k => ?_) (fun _ => K)
  have e : b = D := by omega
  rw [e]
  exact K
theorem hz_farthest {post : Int32 → St2 → Prop} {pr ct sz ks wt : Int32} {a1 a2 a3 a4 a5 a6 a7 a8 a9 a10 a11 a12 a13 : Nat → Int32} {X Y : Nat → Int} {n : Nat} {h : Nat → Nat} {D : Int} (hn : n ≤ 24) (hb : ∀ j, j < 4 → h j < n) (hsol : hz_sol pr a1 n X Y 4 4 h) (hD0 : 0 ≤ D)
    (c1 : ∀ i, i < 4 → hz_cr X Y (h i) (h ((i + 1) % 4)) (h ((i + 1) % 4)) < hz_cr X Y (h i) (h ((i + 1) % 4)) (h ((i + 2) % 4)))
    (c2 : ∀ i, i < 4 → hz_cr X Y (h i) (h ((i + 1) % 4)) (h ((i + 3) % 4)) ≤ hz_cr X Y (h i) (h ((i + 1) % 4)) (h ((i + 2) % 4)))
    (s1 : ∀ i, i < 4 → hz_sv X Y (h i) (h ((i + 2) % 4)) = D) (s2 : ∀ i, i < 4 → hz_sv X Y (h ((i + 1) % 4)) (h ((i + 2) % 4)) ≤ D) (s3 : ∀ i, i < 4 → hz_sv X Y (h ((i + 1) % 4)) (h ((i + 3) % 4)) = D)
    (H : ∀ (ct sz ks wt : Int32) (a2 a3 a4 a5 a6 a7 a8 a9 a10 a11 a12 a13 : Nat → Int32), post (hz_I D) (pr, ct, sz, ks, wt, a1, a2, a3, a4, a5, a6, a7, a8, a9, a10, a11, a12, a13)) : wpX_farthest post (pr, ct, sz, ks, wt, a1, a2, a3, a4, a5, a6, a7, a8, a9, a10, a11, a12, a13) := by
  unfold wpX_farthest
  refine hsol _ _ _ _ _ _ _ _ _ _ _ _ _ _ _ _ _ _ (fun ks wt b2 b3 b4 b5 b7 b8 b9 b10 b11 b12 b13 hx hm => br_f (by decide) (br_t (by decide) ?_))
  have em : ∀ j, j < 4 → b4 (nI j).toNatClampNeg = nI (h j) := by
    intro j hj
    rw [nI_clamp (by omega)]
    exact (hm j hj).1
  have hBD : hz_B D := by
    have := hz_svB hx (hb 0 (by omega)) (hb 2 (by omega))
    have e := s1 0 (by omega)
    have e : hz_sv X Y (h 0) (h 2) = D := e
    constructor <;> omega
  have L := pk_loop (σ := Unit) (fun N i _ => wX_farthest_56 post pr (nI n) (nI 4) ks wt a1 b2 b3 b4 b5 a6 b7 b8 b9 b10 b11 b12 b13 N (hz_I (if i = 0 then 0 else D)) (nI ((i + 1) % 4)) (nI i)) (fun _ _ => True) 4 0 () (by omega) trivial
    (fun N _ _ => pk_le 4 4 (fun _ => H _ _ _ _ _ _ _ _ _ _ _ _ _ _ _ _) (fun z => absurd z (by omega)))
    (fun N i _ hi _ hw => pk_le 4 i (fun z => absurd z (by omega)) (fun _ => ⟨by decide, nm_r (hz_rem1 (s := 4) (by omega) (by omega) (by omega)) ⟨2, by
      have q1 : (i + 1) % 4 < 4 := Nat.mod_lt _ (by omega)
      have q2 : (i + 2) % 4 < 4 := Nat.mod_lt _ (by omega)
      have q3 : (i + 3) % 4 < 4 := Nat.mod_lt _ (by omega)
      have r2 : ((i + 1) % 4 + 1) % 4 = (i + 2) % 4 := by omega
      have r3 : ((i + 2) % 4 + 1) % 4 = (i + 3) % 4 := by omega
      have k1 := c1 i hi
      have k2 := c2 i hi
      have e2 : nI ((i + 1) % 4) + 1 - (nI ((i + 1) % 4) + 1) / nI 4 * nI 4 = nI ((i + 2) % 4) := by
        rw [hz_rem1 (s := 4) (by omega) (by omega) (by omega), r2]
      have e3 : nI ((i + 2) % 4) + 1 - (nI ((i + 2) % 4) + 1) / nI 4 * nI 4 = nI ((i + 3) % 4) := by
        rw [hz_rem1 (s := 4) (by omega) (by omega) (by omega), r3]
      refine ⟨pk_in i 48 (by omega), pk_in ((i + 1) % 4) 48 (by omega), by decide, pk_in ((i + 2) % 4) 48 (by omega) e2, hz_turn hn hx (hb _ hi) (hb _ q1) (hb _ q2) (em _ hi) (em _ q1) (by rw [e2]; exact em _ q2) (fun B1 => ⟨pk_in i 48 (by omega), pk_in ((i + 1) % 4) 48 (by omega), pk_in ((i + 1) % 4) 48 (by omega), hz_turn hn hx (hb _ hi) (hb _ q1) (hb _ q1) (em _ hi) (em _ q1) (em _ q1) (fun B2 => zb_le B1 B2 (fun k => absurd k (by omega)) (fun _ => ⟨by decide, nm_r e2 ?_⟩))⟩)⟩
      refine ⟨pk_in i 48 (by omega), pk_in ((i + 1) % 4) 48 (by omega), by decide, pk_in ((i + 3) % 4) 48 (by omega) e3, hz_turn hn hx (hb _ hi) (hb _ q1) (hb _ q3) (em _ hi) (em _ q1) (by rw [e3]; exact em _ q3) (fun B1 => ⟨pk_in i 48 (by omega), pk_in ((i + 1) % 4) 48 (by omega), pk_in ((i + 2) % 4) 48 (by omega), hz_turn hn hx (hb _ hi) (hb _ q1) (hb _ q2) (em _ hi) (em _ q1) (em _ q2) (fun B2 => zb_le B1 B2 (fun _ => ?_) (fun k => absurd k (by omega)))⟩)⟩
      refine ⟨pk_in i 48 (by omega), pk_in ((i + 2) % 4) 48 (by omega), hz_square hn hx (hb _ hi) (hb _ q2) (em _ hi) (em _ q2) (fun B3 => ⟨pk_in ((i + 1) % 4) 48 (by omega), pk_in ((i + 2) % 4) 48 (by omega), hz_square hn hx (hb _ q1) (hb _ q2) (em _ q1) (em _ q2) (fun B4 => ⟨pk_in ((i + 1) % 4) 48 (by omega), by decide, pk_in ((i + 3) % 4) 48 (by omega) e3, hz_square hn hx (hb _ q1) (hb _ q3) (em _ q1) (by rw [e3]; exact em _ q3) (fun B5 => ?_)⟩)⟩)⟩
      rw [s1 i hi, s3 i hi]
      refine hz_217 B4 hBD ?_ (s2 i hi) ?_ ?_
      · by_cases e : i = 0
        · rw [if_pos e]
          exact hz_B0
        · rw [if_neg e]
          exact hBD
      · by_cases e : i = 0
        · rw [if_pos e]
          exact hD0
        · rw [if_neg e]
          exact Int.le_refl D
      · have := hw () trivial
        rw [if_neg (by omega)] at this
        exact this⟩⟩))
  exact L
theorem hz_t57 {post : Int32 → St2 → Prop} {J13 : Int32 → Int32 → Prop} {J32 : Int32 → Int32 → Int32 → Prop} {pr ct ks wt : Int32} {a1 a2 a3 a4 a5 a6 a7 a8 a9 a10 a11 a12 a13 : Nat → Int32} {X Y : Nat → Int} {n i j k : Nat} {h : Nat → Nat} {M b : Int} (hn : n ≤ 24) (hx : hz_xy n X Y a2 a3) (hm : hz_mh 4 h a4) (hb : ∀ j, j < 4 → h j < n) (hi : i < 4) (hj : j < 4) (hk : k < 4) (hbB : hz_B b) (h1 : hz_cr X Y (h i) (h j) (h k) = M) (h2 : k + 1 < 4 → hz_cr X Y (h i) (h j) (h (k + 1)) = M) (hbM : b ≤ M) (H : J32 (hz_I M) (nI k) (nI (j + 1))) : wX_triangle_57 post J13 J32 (hz_I b) (nI i) (nI j) (nI k) pr ct (nI 4) ks wt a1 a2 a3 a4 a5 a6 a7 a8 a9 a10 a11 a12 a13 := by
  have em : ∀ j, j < 4 → a4 (nI j).toNatClampNeg = nI (h j) := by
    intro j hj
    rw [nI_clamp (by omega)]
    exact (hm j hj).1
  have fin : ∀ N, hz_B M → wX_triangle_100 post J13 J32 (hz_I b) (nI i) (nI j) pr ct (nI 4) ks wt a1 a2 a3 a4 a5 a6 a7 a8 a9 a10 a11 a12 a13 (N + 1) (nI k) (hz_I M) 0 := by
    intro N hBM
    refine br_t rfl (zb_le hBM hbB (fun z => nm_r (nI_1 j) ?_) (fun _ => nm_r (nI_1 j) H))
    have e : b = M := by omega
    rw [e]
    exact H
  unfold wX_triangle_57
  refine ⟨pk_in i 48 (by omega), pk_in j 48 (by omega), pk_in k 48 (by omega), hz_turn hn hx (hb _ hi) (hb _ hj) (hb _ hk) (em _ hi) (em _ hj) (em _ hk) (fun B1 => ?_)⟩
  rw [h1] at B1 ⊢
  refine pk_le 4 (k + 1) (fun _ => ⟨1, fin 0 B1⟩) (fun z => ⟨2, br_f (by decide) ⟨pk_in i 48 (by omega), pk_in j 48 (by omega), pk_in (k + 1) 48 (by omega) (nI_1 k), hz_turn hn hx (hb _ hi) (hb _ hj) (hb _ z) (em _ hi) (em _ hj) (by rw [nI_1]; exact em _ z) (fun B2 => ?_)⟩⟩) rfl (nI_1 k)
  rw [h2 z]
  refine zb_le B1 B1 (fun _ => ?_) (fun k => absurd k (by omega))
  unfold wX_triangle_144 wX_triangle_158 wX_triangle_171
  refine br_t rfl (br_t rfl (nm_r (e' := nI k) ?_ (br_t rfl (fin 0 B1))))
  exact nI_add k 0
theorem hz_triangle {post : Int32 → St2 → Prop} {pr ct sz ks wt : Int32} {a1 a2 a3 a4 a5 a6 a7 a8 a9 a10 a11 a12 a13 : Nat → Int32} {X Y : Nat → Int} {n : Nat} {h : Nat → Nat} {M : Int} (hn : n ≤ 24) (hb : ∀ j, j < 4 → h j < n) (hsol : hz_sol pr a1 n X Y 5 4 h) (hM0 : 0 ≤ M) (m1 : hz_cr X Y (h 0) (h 1) (h 2) = M) (m2 : hz_cr X Y (h 0) (h 1) (h 3) = M) (m3 : hz_cr X Y (h 0) (h 2) (h 3) = M) (m4 : hz_cr X Y (h 1) (h 2) (h 3) = M)
    (H : ∀ (ct sz ks wt : Int32) (a2 a3 a4 a5 a6 a7 a8 a9 a10 a11 a12 a13 : Nat → Int32), post (hz_I M) (pr, ct, sz, ks, wt, a1, a2, a3, a4, a5, a6, a7, a8, a9, a10, a11, a12, a13)) : wpX_triangle post (pr, ct, sz, ks, wt, a1, a2, a3, a4, a5, a6, a7, a8, a9, a10, a11, a12, a13) := by
  unfold wpX_triangle
  refine hsol _ _ _ _ _ _ _ _ _ _ _ _ _ _ _ _ _ _ (fun ks wt b2 b3 b4 b5 b7 b8 b9 b10 b11 b12 b13 hx hm => ?_)
  have hBM : hz_B M := by
    have := hz_crB hx (hb 0 (by omega)) (hb 1 (by omega)) (hb 2 (by omega))
    constructor <;> omega
  refine ⟨3, br_f (by decide) (nm_r (e' := nI 2) (by decide) (nm_r (e' := nI 1) (by decide) ⟨3, br_f (by decide) (br_f (by decide) ?_)⟩))⟩
  refine hz_t57 (i := 0) (j := 1) (k := 2) (b := 0) hn hx hm hb (by omega) (by omega) (by omega) hz_B0 m1 (fun _ => m2) hM0 ?_
  refine br_f (by decide) (br_t (by decide) ?_)
  refine hz_t57 (i := 0) (j := 2) (k := 3) hn hx hm hb (by omega) (by omega) (by omega) hBM m3 (fun z => absurd z (by omega)) (Int.le_refl M) ?_
  refine br_t (by decide) (nm_r (e' := nI 1) (by decide) ?_)
  refine br_f (by decide) (nm_r (e' := nI 3) (by decide) (nm_r (e' := nI 2) (by decide) ⟨2, br_f (by decide) (br_f (by decide) ?_)⟩))
  refine hz_t57 (i := 1) (j := 2) (k := 3) hn hx hm hb (by omega) (by omega) (by omega) hBM m4 (fun z => absurd z (by omega)) (Int.le_refl M) ?_
  refine br_t (by decide) (nm_r (e' := nI 2) (by decide) ?_)
  exact br_t (by decide) (H _ _ _ _ _ _ _ _ _ _ _ _ _ _ _ _)
theorem hz_22a {post : Int32 → Prop} {g : Int} (H : post (hz_I g)) : ∃ fu, wX_divisor_22 post fu (hz_I g) (hz_I 0) := ⟨1, br_t (by decide) H⟩
theorem hz_22b {post : Int32 → Prop} {g : Nat} (h1 : g ≤ 63) (H : post (nI g)) : ∃ fu, wX_divisor_22 post fu (hz_I 0) (nI g) := by
  refine ⟨2, pk_eq g 0 (fun e => ?_) (fun e => ⟨nI_ne0 (by omega) (by omega), nm_r (e' := nI 0) ?_ (br_t rfl H)⟩)⟩
  · subst e
    exact H
  · have := pk_rem (a := 0) (d := g) (by omega) (by omega) (by omega)
    rw [Nat.zero_mod] at this
    exact this
theorem hz_dv {post : Int32 → Prop} {u v : Int} {g : Nat} {p0 p1 : Int32} (e0 : p0 = hz_I u) (e1 : p1 = hz_I v) (hg : g ≤ 63) (hc : (v = 0 ∧ (u = (g : Int) ∨ u = -(g : Int))) ∨ (u = 0 ∧ (v = (g : Int) ∨ v = -(g : Int)))) (H : post (nI g)) : wpX_divisor post () p0 p1 := by
  subst e0 e1
  have bu : hz_B u := ⟨by omega, by omega⟩
  have bv : hz_B v := ⟨by omega, by omega⟩
  have K : ∀ a b : Int, hz_B b → ((b = 0 ∧ a = (g : Int)) ∨ (a = 0 ∧ (b = (g : Int) ∨ b = -(g : Int)))) → wX_divisor_10 post (hz_I b) (hz_I a) := by
    intro a b bb hab
    unfold wX_divisor_10
    refine zb_nn bb (fun k => ?_) (fun k => nm_r (hz_neg b) ?_)
    · by_cases z : b = 0
      · rw [z]
        have : a = (g : Int) := by omega
        rw [this]
        exact hz_22a (by rw [← hz_n]; exact H)
      · have e : a = 0 := by omega
        have f : b = (g : Int) := by omega
        rw [e, f, ← hz_n]
        exact hz_22b hg H
    · have e : a = 0 := by omega
      have f : -b = (g : Int) := by omega
      rw [e, f, ← hz_n]
      exact hz_22b hg H
  unfold wpX_divisor
  refine zb_nn bu (fun k => K u v bv (by omega)) (fun k => ?_)
  rw [hz_neg]
  exact K (-u) v bv (by omega)
theorem hz_places {post : Int32 → St2 → Prop} {pr ct sz ks wt : Int32} {a1 a2 a3 a4 a5 a6 a7 a8 a9 a10 a11 a12 a13 : Nat → Int32} {X Y : Nat → Int} {n K : Nat} {h : Nat → Nat} (g : Nat → Nat) (hn : n ≤ 24) (hb : ∀ j, j < 4 → h j < n) (hsol : hz_sol pr a1 n X Y 3 4 h) (hg : ∀ i, i < 4 → g i ≤ 63) (hc : ∀ i, i < 4 → ((Y (h ((i + 1) % 4)) - Y (h i) = 0 ∧ (X (h ((i + 1) % 4)) - X (h i) = (g i : Int) ∨ X (h ((i + 1) % 4)) - X (h i) = -(g i : Int))) ∨ (X (h ((i + 1) % 4)) - X (h i) = 0 ∧ (Y (h ((i + 1) % 4)) - Y (h i) = (g i : Int) ∨ Y (h ((i + 1) % 4)) - Y (h i) = -(g i : Int)))))
    (hK : hz_SA X Y h 2 + ((g 0 + g 1 + g 2 + g 3 : Nat) : Int) = 2 * (K : Int)) (hK2 : K < 100000)
    (H : ∀ (ct sz ks wt : Int32) (a2 a3 a4 a5 a6 a7 a8 a9 a10 a11 a12 a13 : Nat → Int32), post (nI (K + 1)) (pr, ct, sz, ks, wt, a1, a2, a3, a4, a5, a6, a7, a8, a9, a10, a11, a12, a13)) : wpX_places post (pr, ct, sz, ks, wt, a1, a2, a3, a4, a5, a6, a7, a8, a9, a10, a11, a12, a13) := by
  unfold wpX_places
  refine hsol _ _ _ _ _ _ _ _ _ _ _ _ _ _ _ _ _ _ (fun ks wt b2 b3 b4 b5 b7 b8 b9 b10 b11 b12 b13 hx hm => br_t (by decide) ?_)
  have em : ∀ j, j < 4 → b4 (nI j).toNatClampNeg = nI (h j) := by
    intro j hj
    rw [nI_clamp (by omega)]
    exact (hm j hj).1
  have step : ∀ N i a, i < 4 → wX_places_26 post pr (nI n) (nI 4) ks wt a1 b2 b3 b4 b5 a6 b7 b8 b9 b10 b11 b12 b13 N (nI (a + g i)) (nI (i + 1)) → wX_places_26 post pr (nI n) (nI 4) ks wt a1 b2 b3 b4 b5 a6 b7 b8 b9 b10 b11 b12 b13 (N + 1) (nI a) (nI i) := by
    intro N i a hi hw
    have q1 : (i + 1) % 4 < 4 := Nat.mod_lt _ (by omega)
    have e1 : nI i + 1 - (nI i + 1) / nI 4 * nI 4 = nI ((i + 1) % 4) := hz_rem1 (s := 4) (by omega) (by omega) (by omega)
    have b0 := hb _ hi
    have b1 := hb _ q1
    refine pk_le 4 i (fun z => absurd z (by omega)) (fun _ => ⟨pk_in i 48 (by omega), nm_r (em i hi) ⟨by decide, pk_in ((i + 1) % 4) 48 (by omega) e1, nm_r (e' := nI (h ((i + 1) % 4))) (by rw [e1]; exact em _ q1) ⟨pk_in _ 24 (by omega) rfl, pk_in _ 24 (by omega) rfl, pk_in _ 24 (by omega) rfl, pk_in _ 24 (by omega) rfl, hz_dv ?_ ?_ (hg i hi) (hc i hi |>.elim (fun t => Or.inl t) (fun t => Or.inr t)) (nm_r (nI_add _ _) (nm_r (nI_1 i) hw))⟩⟩⟩)
    · rw [nI_clamp (by omega), nI_clamp (by omega), (hx _ b0).1, (hx _ b1).1, hz_sub]
    · rw [nI_clamp (by omega), nI_clamp (by omega), (hx _ b0).2.1, (hx _ b1).2.1, hz_sub]
  refine ⟨5, step 4 0 0 (by omega) (step 3 1 _ (by omega) (step 2 2 _ (by omega) (step 1 3 _ (by omega) (br_t (by decide) (hz_areaNow hn hx (by omega) hm hb ⟨by decide, ?_⟩)))))⟩
  have e : hz_I (hz_SA X Y h (4 - 2)) + nI (0 + g 0 + g 1 + g 2 + g 3) = nI (2 * K) := by
    rw [hz_n, hz_n, hz_add]
    congr 1
    have : hz_SA X Y h (4 - 2) = hz_SA X Y h 2 := rfl
    rw [this]
    have h0 : ((0 + g 0 + g 1 + g 2 + g 3 : Nat) : Int) = ((g 0 + g 1 + g 2 + g 3 : Nat) : Int) := by omega
    rw [h0, hK]
    omega
  rw [e, show nI (2 * K) / 2 = nI (2 * K / 2) from pk_div (d := 2) (by omega) (by decide) (by decide), show 2 * K / 2 = K by omega, nI_1]
  exact H _ _ _ _ _ _ _ _ _ _ _ _ _ _ _ _
theorem hz_farthest0 {post : Int32 → St2 → Prop} {pr ct sz ks wt : Int32} {a1 a2 a3 a4 a5 a6 a7 a8 a9 a10 a11 a12 a13 : Nat → Int32} {X Y : Nat → Int} {h : Nat → Nat} (hsol : hz_sol pr a1 0 X Y 4 0 h) (H : ∀ (ct sz ks wt : Int32) (a2 a3 a4 a5 a6 a7 a8 a9 a10 a11 a12 a13 : Nat → Int32), post (-10000) (pr, ct, sz, ks, wt, a1, a2, a3, a4, a5, a6, a7, a8, a9, a10, a11, a12, a13)) : wpX_farthest post (pr, ct, sz, ks, wt, a1, a2, a3, a4, a5, a6, a7, a8, a9, a10, a11, a12, a13) := by
  unfold wpX_farthest
  exact hsol _ _ _ _ _ _ _ _ _ _ _ _ _ _ _ _ _ _ (fun ks wt b2 b3 b4 b5 b7 b8 b9 b10 b11 b12 b13 hx hm => br_t rfl (H _ _ _ _ _ _ _ _ _ _ _ _ _ _ _ _))
theorem hz_triangle0 {post : Int32 → St2 → Prop} {pr ct sz ks wt : Int32} {a1 a2 a3 a4 a5 a6 a7 a8 a9 a10 a11 a12 a13 : Nat → Int32} {X Y : Nat → Int} {h : Nat → Nat} (hsol : hz_sol pr a1 0 X Y 5 0 h) (H : ∀ (ct sz ks wt : Int32) (a2 a3 a4 a5 a6 a7 a8 a9 a10 a11 a12 a13 : Nat → Int32), post 0 (pr, ct, sz, ks, wt, a1, a2, a3, a4, a5, a6, a7, a8, a9, a10, a11, a12, a13)) : wpX_triangle post (pr, ct, sz, ks, wt, a1, a2, a3, a4, a5, a6, a7, a8, a9, a10, a11, a12, a13) := by
  unfold wpX_triangle
  exact hsol _ _ _ _ _ _ _ _ _ _ _ _ _ _ _ _ _ _ (fun ks wt b2 b3 b4 b5 b7 b8 b9 b10 b11 b12 b13 hx hm => ⟨1, br_t (by decide) (H _ _ _ _ _ _ _ _ _ _ _ _ _ _ _ _)⟩)
theorem hz_places0 {post : Int32 → St2 → Prop} {pr ct sz ks wt : Int32} {a1 a2 a3 a4 a5 a6 a7 a8 a9 a10 a11 a12 a13 : Nat → Int32} {X Y : Nat → Int} {h : Nat → Nat} (hsol : hz_sol pr a1 0 X Y 3 0 h) (H : ∀ (ct sz ks wt : Int32) (a2 a3 a4 a5 a6 a7 a8 a9 a10 a11 a12 a13 : Nat → Int32), post 0 (pr, ct, sz, ks, wt, a1, a2, a3, a4, a5, a6, a7, a8, a9, a10, a11, a12, a13)) : wpX_places post (pr, ct, sz, ks, wt, a1, a2, a3, a4, a5, a6, a7, a8, a9, a10, a11, a12, a13) := by
  unfold wpX_places
  exact hsol _ _ _ _ _ _ _ _ _ _ _ _ _ _ _ _ _ _ (fun ks wt b2 b3 b4 b5 b7 b8 b9 b10 b11 b12 b13 hx hm => br_f (by decide) (H _ _ _ _ _ _ _ _ _ _ _ _ _ _ _ _))
end
section
def hz_cmp (l r : Nat) : Nat := if l < r then 0 else if l = r then 1 else 2
theorem hz_cmp0 {l r : Nat} (h : hz_cmp l r = 0) : l < r := by
  unfold hz_cmp at h
  by_cases a : l < r
  · exact a
  · rw [if_neg a] at h
    by_cases b : l = r
    · rw [if_pos b] at h
      exact absurd h (by decide)
    · rw [if_neg b] at h
      exact absurd h (by decide)
theorem hz_cmp1 {l r : Nat} (h : hz_cmp l r = 1) : l = r := by
  unfold hz_cmp at h
  by_cases a : l < r
  · rw [if_pos a] at h
    exact absurd h (by decide)
  · rw [if_neg a] at h
    by_cases b : l = r
    · exact b
    · rw [if_neg b] at h
      exact absurd h (by decide)
theorem hz_cmp2 {l r : Nat} (h : hz_cmp l r = 2) : r < l := by
  unfold hz_cmp at h
  by_cases a : l < r
  · rw [if_pos a] at h
    exact absurd h (by decide)
  · rw [if_neg a] at h
    by_cases b : l = r
    · rw [if_pos b] at h
      exact absurd h (by decide)
    · omega
/-- the sign of the turn on the unit grid -/
def hz_gs (gx gy : Nat → Nat) (n a b c : Nat) : Nat := if a < n ∧ b < n ∧ c < n then hz_cmp (gx a * gy b + gx b * gy c + gx c * gy a) (gx b * gy a + gx c * gy b + gx a * gy c) else 3
/-- coordinates of a grid -/
def hz_X (b s : Nat) (g : Nat → Nat) : Nat → Int := fun j => ((b + s * g j : Nat) : Int)
theorem hz_poly (bx sx by' sy xa xb xc ya yb yc : Int) : ((bx + sx * xb) - (bx + sx * xa)) * ((by' + sy * yc) - (by' + sy * ya)) - ((by' + sy * yb) - (by' + sy * ya)) * ((bx + sx * xc) - (bx + sx * xa)) = (sx * sy) * ((xa * yb + xb * yc + xc * ya) - (xb * ya + xc * yb + xa * yc)) := by grind
theorem hz_crG (bx sx by' sy : Nat) (gx gy : Nat → Nat) (a b c : Nat) : hz_cr (hz_X bx sx gx) (hz_X by' sy gy) a b c = ((sx * sy : Nat) : Int) * (((gx a * gy b + gx b * gy c + gx c * gy a : Nat) : Int) - ((gx b * gy a + gx c * gy b + gx a * gy c : Nat) : Int)) := by
  unfold hz_cr hz_X
  simp only [Int.natCast_add, Int.natCast_mul]
  exact hz_poly _ _ _ _ _ _ _ _ _ _
theorem hz_mneg {C d : Int} (hC : 0 < C) (h : d < 0) : C * d < 0 := Int.mul_neg_of_pos_of_neg hC h
theorem hz_gsOk {bx sx by' sy n : Nat} {gx gy : Nat → Nat} (h1 : 0 < sx) (h2 : 0 < sy) : hz_sg n (hz_X bx sx gx) (hz_X by' sy gy) (hz_gs gx gy n) := by
  have hC : (0 : Int) < ((sx * sy : Nat) : Int) := by
    have := Nat.mul_pos h1 h2
    omega
  intro a b c
  by_cases hb : a < n ∧ b < n ∧ c < n
  · obtain ⟨ha, hb', hc⟩ := hb
    have e : hz_gs gx gy n a b c = hz_cmp (gx a * gy b + gx b * gy c + gx c * gy a) (gx b * gy a + gx c * gy b + gx a * gy c) := if_pos ⟨ha, hb', hc⟩
    rw [e, hz_crG]
    refine ⟨fun h => ⟨ha, hb', hc, ?_⟩, fun h => ⟨ha, hb', hc, ?_⟩, fun h => ⟨ha, hb', hc, ?_⟩⟩
    · exact Int.mul_neg_of_pos_of_neg hC (by have := hz_cmp0 h; omega)
    · rw [hz_cmp1 h, Int.sub_self, Int.mul_zero]
    · exact Int.mul_pos hC (by have := hz_cmp2 h; omega)
  · have e : hz_gs gx gy n a b c = 3 := if_neg hb
    rw [e]
    exact ⟨fun h => absurd h (by decide), fun h => absurd h (by decide), fun h => absurd h (by decide)⟩
/-- the distance of two numbers -/
def hz_ad (a b : Nat) : Nat := (a - b) + (b - a)
theorem hz_adsq (b s x y : Nat) : (((b + s * x : Nat) : Int) - ((b + s * y : Nat) : Int)) * (((b + s * x : Nat) : Int) - ((b + s * y : Nat) : Int)) = ((s * hz_ad x y * (s * hz_ad x y) : Nat) : Int) := by
  rcases Nat.le_total x y with h | h
  · obtain ⟨d, rfl⟩ : ∃ d, y = x + d := ⟨y - x, by omega⟩
    have e : hz_ad x (x + d) = d := by unfold hz_ad; omega
    rw [e]
    simp only [Int.natCast_add, Int.natCast_mul]
    grind
  · obtain ⟨d, rfl⟩ : ∃ d, x = y + d := ⟨x - y, by omega⟩
    have e : hz_ad (y + d) y = d := by unfold hz_ad; omega
    rw [e]
    simp only [Int.natCast_add, Int.natCast_mul]
    grind
theorem hz_svG (bx sx by' sy : Nat) (gx gy : Nat → Nat) (a b : Nat) : hz_sv (hz_X bx sx gx) (hz_X by' sy gy) a b = ((sx * hz_ad (gx a) (gx b) * (sx * hz_ad (gx a) (gx b)) + sy * hz_ad (gy a) (gy b) * (sy * hz_ad (gy a) (gy b)) : Nat) : Int) := by
  unfold hz_sv hz_X
  rw [hz_adsq, hz_adsq, Int.natCast_add]
/-- which of two ways is longer, where that is seen without the scales -/
def hz_gq (gx gy : Nat → Nat) (n a b c d : Nat) : Nat := if a < n ∧ b < n ∧ c < n ∧ d < n then (if hz_ad (gx a) (gx b) ≤ hz_ad (gx c) (gx d) ∧ hz_ad (gy a) (gy b) ≤ hz_ad (gy c) (gy d) then 0 else if hz_ad (gx c) (gx d) ≤ hz_ad (gx a) (gx b) ∧ hz_ad (gy c) (gy d) ≤ hz_ad (gy a) (gy b) then 1 else 2) else 2
theorem hz_sqle {s u w : Nat} (h : u ≤ w) : s * u * (s * u) ≤ s * w * (s * w) := Nat.mul_le_mul (Nat.mul_le_mul_left s h) (Nat.mul_le_mul_left s h)
theorem hz_sqlt {s u w : Nat} (hs : 0 < s) (h : u < w) : s * u * (s * u) < s * w * (s * w) := Nat.mul_self_lt_mul_self (Nat.mul_lt_mul_of_pos_left h hs)
theorem hz_gqOk {bx sx by' sy n : Nat} {gx gy : Nat → Nat} (h1 : 0 < sx) (h2 : 0 < sy) : hz_sq n (hz_X bx sx gx) (hz_X by' sy gy) (hz_gq gx gy n) := by
  intro a b c d
  rw [hz_svG, hz_svG]
  unfold hz_gq
  by_cases hb : a < n ∧ b < n ∧ c < n ∧ d < n
  · rw [if_pos hb]
    by_cases p : hz_ad (gx a) (gx b) ≤ hz_ad (gx c) (gx d) ∧ hz_ad (gy a) (gy b) ≤ hz_ad (gy c) (gy d)
    · rw [if_pos p]
      refine ⟨fun _ => ⟨hb.1, hb.2.1, hb.2.2.1, hb.2.2.2, ?_⟩, fun h => absurd h (by decide)⟩
      have q1 := hz_sqle (s := sx) p.1
      have q2 := hz_sqle (s := sy) p.2
      omega
    · rw [if_neg p]
      by_cases q : hz_ad (gx c) (gx d) ≤ hz_ad (gx a) (gx b) ∧ hz_ad (gy c) (gy d) ≤ hz_ad (gy a) (gy b)
      · rw [if_pos q]
        refine ⟨fun h => absurd h (by decide), fun _ => ⟨hb.1, hb.2.1, hb.2.2.1, hb.2.2.2, ?_⟩⟩
        have q1 := hz_sqle (s := sx) q.1
        have q2 := hz_sqle (s := sy) q.2
        have t : hz_ad (gx c) (gx d) < hz_ad (gx a) (gx b) ∨ hz_ad (gy c) (gy d) < hz_ad (gy a) (gy b) := by omega
        rcases t with t | t
        · have q3 := hz_sqlt h1 t
          omega
        · have q3 := hz_sqlt h2 t
          omega
      · rw [if_neg q]
        exact ⟨fun h => absurd h (by decide), fun h => absurd h (by decide)⟩
  · rw [if_neg hb]
    exact ⟨fun h => absurd h (by decide), fun h => absurd h (by decide)⟩
def hz_tl (gx gy : Nat → Nat) (a b c : Nat) : Nat := gx a * gy b + gx b * gy c + gx c * gy a
def hz_tr (gx gy : Nat → Nat) (a b c : Nat) : Nat := gx b * gy a + gx c * gy b + gx a * gy c
/-- the farthest on the right, on the unit grid -/
def hz_gf (gx gy : Nat → Nat) (n a b : Nat) : Nat := if a < n ∧ b < n then (if (List.range n).all (fun i => decide (hz_tr gx gy a b i ≤ hz_tl gx gy a b i)) then 0 else match (List.range n).find? (fun m => decide (hz_tl gx gy a b m < hz_tr gx gy a b m) && (List.range n).all (fun i => i == m || decide (hz_tl gx gy a b m + hz_tr gx gy a b i < hz_tl gx gy a b i + hz_tr gx gy a b m))) with | some m => m + 1 | none => 99) else 99
theorem hz_gfOk {bx sx by' sy n : Nat} {gx gy : Nat → Nat} (h1 : 0 < sx) (h2 : 0 < sy) : hz_fr n (hz_X bx sx gx) (hz_X by' sy gy) (hz_gf gx gy n) := by
  have hC : (0 : Int) < ((sx * sy : Nat) : Int) := by
    have := Nat.mul_pos h1 h2
    omega
  have E : ∀ a b c, hz_cr (hz_X bx sx gx) (hz_X by' sy gy) a b c = ((sx * sy : Nat) : Int) * (((hz_tl gx gy a b c : Nat) : Int) - ((hz_tr gx gy a b c : Nat) : Int)) := fun a b c => hz_crG bx sx by' sy gx gy a b c
  intro a b
  unfold hz_gf
  by_cases hb : a < n ∧ b < n
  · rw [if_pos hb]
    by_cases p : (List.range n).all (fun i => decide (hz_tr gx gy a b i ≤ hz_tl gx gy a b i)) = true
    · rw [if_pos p]
      refine ⟨fun _ => ⟨hb.1, hb.2, fun i hi => ?_⟩, fun m _ h => absurd h (by omega)⟩
      have := of_decide_eq_true (List.all_eq_true.mp p i (List.mem_range.mpr hi))
      rw [E]
      exact Int.mul_nonneg (by omega) (by omega)
    · rw [if_neg p]
      cases e : (List.range n).find? (fun m => decide (hz_tl gx gy a b m < hz_tr gx gy a b m) && (List.range n).all (fun i => i == m || decide (hz_tl gx gy a b m + hz_tr gx gy a b i < hz_tl gx gy a b i + hz_tr gx gy a b m))) with
      | none => exact ⟨fun h => absurd h (by decide), fun m hm h => absurd h (by show ¬ 99 = m + 1; omega)⟩
      | some m' =>
        refine ⟨fun h => absurd h (Nat.succ_ne_zero m'), fun m hm h => ?_⟩
        have em : m' = m := Nat.succ.inj h
        subst em
        have q := List.find?_some e
        have mem := List.mem_range.mp (List.mem_of_find?_eq_some e)
        obtain ⟨q1, q2⟩ := (Bool.and_eq_true _ _ ▸ q)
        have q1 := of_decide_eq_true q1
        refine ⟨hb.1, hb.2, mem, ?_, fun i hi hne => ?_⟩
        · rw [E]
          exact Int.mul_neg_of_pos_of_neg hC (by omega)
        · have t := List.all_eq_true.mp q2 i (List.mem_range.mpr hi)
          have t2 : (i == m') = true ∨ decide (hz_tl gx gy a b m' + hz_tr gx gy a b i < hz_tl gx gy a b i + hz_tr gx gy a b m') = true := Bool.or_eq_true _ _ ▸ t
          rcases t2 with t2 | t2
          · exact absurd (eq_of_beq t2) hne
          · have t3 := of_decide_eq_true t2
            rw [E, E]
            exact Int.mul_lt_mul_of_pos_left (by omega) hC
  · rw [if_neg hb]
    exact ⟨fun h => absurd h (by decide), fun m hm h => absurd h (by omega)⟩
/-- the found corners as a list -/
def hz_toL (o : Option ((Nat → Nat) × Nat)) : Option (List Nat) := o.map (fun r => (List.range r.2).map r.1)
def hz_h (l : List Nat) : Nat → Nat := fun j => l.getD j 0
theorem hz_list {o : Option ((Nat → Nat) × Nat)} {l : List Nat} (h : hz_toL o = some l) : ∃ r, o = some r ∧ r.2 = l.length ∧ ∀ a, hz_mh r.2 r.1 a → hz_mh l.length (hz_h l) a := by
  cases o with
  | none => exact absurd h (by simp [hz_toL])
  | some r =>
    have e : (List.range r.2).map r.1 = l := Option.some.inj h
    subst e
    refine ⟨r, rfl, by simp, fun a hm j hj => ?_⟩
    have hj' : j < r.2 := by simpa using hj
    have : hz_h ((List.range r.2).map r.1) j = r.1 j := by
      unfold hz_h
      simp [List.getD, hj']
    rw [this]
    exact hm j hj'
theorem hz_eng0 {n : Nat} {X Y : Nat → Int} {sg : Nat → Nat → Nat → Nat} {sq : Nat → Nat → Nat → Nat → Nat} {l : List Nat} (hn : n ≤ 24) (hs : hz_sg n X Y sg) (hq : hz_sq n X Y sq) (h : hz_toL (hz_wrap sg sq n) = some l) : hz_eng n X Y 0 l.length (hz_h l) := by
  intro post pr ks wt a1 a2 a3 a4 a5 a6 a7 a8 a9 a10 a11 a12 a13 hx H
  obtain ⟨r, hr, e, hm⟩ := hz_list h
  refine hz_wrap_w hn hx hs hq hr (fun a4' h4 => ?_)
  rw [e]
  exact H _ _ _ _ _ _ _ _ _ _ _ (hm _ h4)
theorem hz_eng1 {n : Nat} {X Y : Nat → Int} {sg : Nat → Nat → Nat → Nat} {sq : Nat → Nat → Nat → Nat → Nat} {l : List Nat} (hn : n ≤ 24) (h2 : 2 ≤ n) (hs : hz_sg n X Y sg) (hq : hz_sq n X Y sq) (h : hz_toL (hz_around sg sq n) = some l) : hz_eng n X Y 1 l.length (hz_h l) := by
  intro post pr ks wt a1 a2 a3 a4 a5 a6 a7 a8 a9 a10 a11 a12 a13 hx H
  obtain ⟨r, hr, e, hm⟩ := hz_list h
  refine hz_around_w hn h2 hx hs hq hr (fun a4' a7' h4 => ?_)
  rw [e]
  exact H _ _ _ _ _ _ _ _ _ _ _ (hm _ h4)
theorem hz_eng2 {n : Nat} {X Y : Nat → Int} {sg : Nat → Nat → Nat → Nat} {l : List Nat} (hn : n ≤ 24) (h2 : 2 ≤ n) (hs : hz_sg n X Y sg) (h : hz_toL (hz_twice sg n) = some l) : hz_eng n X Y 2 l.length (hz_h l) := by
  intro post pr ks wt a1 a2 a3 a4 a5 a6 a7 a8 a9 a10 a11 a12 a13 hx H
  obtain ⟨r, hr, e, hm⟩ := hz_list h
  refine hz_twice_w hn h2 hx hs hr (fun a4' h4 => ?_)
  rw [e]
  exact H _ _ _ _ _ _ _ _ _ _ _ (hm _ h4)
theorem hz_eng3 {n : Nat} {X Y : Nat → Int} {fr : Nat → Nat → Nat} {l : List Nat} (hn : n ≤ 24) (h2 : 2 ≤ n) (hf : hz_fr n X Y fr) (h : hz_toL (hz_part fr n) = some l) : hz_eng n X Y 3 l.length (hz_h l) := by
  intro post pr ks wt a1 a2 a3 a4 a5 a6 a7 a8 a9 a10 a11 a12 a13 hx H
  obtain ⟨r, hr, e, hm⟩ := hz_list h
  refine hz_part_w (wt := wt) hn h2 hx hf hr (fun wt' a4' a8' a9' h4 => ?_)
  rw [e]
  exact H _ _ _ _ _ _ _ _ _ _ _ (hm _ h4)
theorem hz_eng4 {n : Nat} {X Y : Nat → Int} {sg : Nat → Nat → Nat → Nat} {l : List Nat} (hn : n ≤ 24) (h2 : 2 ≤ n) (hs : hz_sg n X Y sg) (h : hz_toL (hz_merge sg n) = some l) : hz_eng n X Y 4 l.length (hz_h l) := by
  intro post pr ks wt a1 a2 a3 a4 a5 a6 a7 a8 a9 a10 a11 a12 a13 hx H
  obtain ⟨r, hr, e, hm⟩ := hz_list h
  refine hz_merge_w hn h2 hx hs hr (fun a4' b10 b11 b12 b13 h4 => ?_)
  rw [e]
  exact H _ _ _ _ _ _ _ _ _ _ _ (hm _ h4)
theorem hz_eng5 {n : Nat} {X Y : Nat → Int} {sg : Nat → Nat → Nat → Nat} {sq : Nat → Nat → Nat → Nat → Nat} {l : List Nat} (hn : n ≤ 24) (h2 : 2 ≤ n) (hs : hz_sg n X Y sg) (hq : hz_sq n X Y sq) (h : hz_toL (hz_insall sg sq n) = some l) : hz_eng n X Y 5 l.length (hz_h l) := by
  intro post pr ks wt a1 a2 a3 a4 a5 a6 a7 a8 a9 a10 a11 a12 a13 hx H
  obtain ⟨r, hr, e, hm⟩ := hz_list h
  refine hz_insall_w hn h2 hx hs hq hr (fun ks' a4' a5' h4 => ?_)
  rw [e]
  exact H _ _ _ _ _ _ _ _ _ _ _ (hm _ h4)
end
section
def hz_qx (j : Nat) : Nat := j / 4
def hz_qy (j : Nat) : Nat := j % 4
theorem hz_c0 : hz_toL (hz_wrap (hz_gs hz_qx hz_qy 24) (hz_gq hz_qx hz_qy 24) 24) = some [0, 20, 23, 3] := by decide +kernel
theorem hz_c1 : hz_toL (hz_around (hz_gs hz_qx hz_qy 24) (hz_gq hz_qx hz_qy 24) 24) = some [0, 20, 23, 3] := by decide +kernel
theorem hz_c2 : hz_toL (hz_twice (hz_gs hz_qx hz_qy 24) 24) = some [0, 20, 23, 3] := by decide +kernel
theorem hz_c3 : hz_toL (hz_part (hz_gf hz_qx hz_qy 24) 24) = some [0, 20, 23, 3] := by decide +kernel
theorem hz_c4 : hz_toL (hz_merge (hz_gs hz_qx hz_qy 24) 24) = some [0, 20, 23, 3] := by decide +kernel
theorem hz_c5 : hz_toL (hz_insall (hz_gs hz_qx hz_qy 24) (hz_gq hz_qx hz_qy 24) 24) = some [0, 20, 23, 3] := by decide +kernel
theorem hz_d0 : hz_toL (hz_wrap (hz_gs hz_qx hz_qy 23) (hz_gq hz_qx hz_qy 23) 23) = some [0, 20, 22, 19, 3] := by decide +kernel
theorem hz_d1 : hz_toL (hz_around (hz_gs hz_qx hz_qy 23) (hz_gq hz_qx hz_qy 23) 23) = some [0, 20, 22, 19, 3] := by decide +kernel
theorem hz_d2 : hz_toL (hz_twice (hz_gs hz_qx hz_qy 23) 23) = some [0, 20, 22, 19, 3] := by decide +kernel
theorem hz_d3 : hz_toL (hz_part (hz_gf hz_qx hz_qy 23) 23) = some [0, 20, 22, 19, 3] := by decide +kernel
theorem hz_d4 : hz_toL (hz_merge (hz_gs hz_qx hz_qy 23) 23) = some [0, 20, 22, 19, 3] := by decide +kernel
theorem hz_d5 : hz_toL (hz_insall (hz_gs hz_qx hz_qy 23) (hz_gq hz_qx hz_qy 23) 23) = some [0, 20, 22, 19, 3] := by decide +kernel
/-- the inner points: their numbers -/
def hz_ix (j : Nat) : Nat := 4 * (1 + j / 2) + 1 + j % 2
def hz_ux (j : Nat) : Nat := hz_ix j / 4
def hz_uy (j : Nat) : Nat := hz_ix j % 4
theorem hz_i2 : hz_toL (hz_twice (hz_gs hz_ux hz_uy 8) 8) = some [0, 6, 7, 1] := by decide +kernel
theorem hz_mem6 {P : Nat → Prop} (h0 : P 0) (h1 : P 1) (h2 : P 2) (h3 : P 3) (h4 : P 4) (h5 : P 5) : ∀ e, e < 6 → P e := by
  intro e he
  have t : e = 0 ∨ e = 1 ∨ e = 2 ∨ e = 3 ∨ e = 4 ∨ e = 5 := by omega
  rcases t with t | t | t | t | t | t <;> subst t <;> assumption
theorem hz_engC {bx sx by' sy : Nat} (h1 : 0 < sx) (h2 : 0 < sy) : ∀ e, e < 6 → hz_eng 24 (hz_X bx sx hz_qx) (hz_X by' sy hz_qy) e 4 (hz_h [0, 20, 23, 3]) :=
  hz_mem6 (hz_eng0 (by omega) (hz_gsOk h1 h2) (hz_gqOk h1 h2) hz_c0) (hz_eng1 (by omega) (by omega) (hz_gsOk h1 h2) (hz_gqOk h1 h2) hz_c1) (hz_eng2 (by omega) (by omega) (hz_gsOk h1 h2) hz_c2) (hz_eng3 (by omega) (by omega) (hz_gfOk h1 h2) hz_c3) (hz_eng4 (by omega) (by omega) (hz_gsOk h1 h2) hz_c4) (hz_eng5 (by omega) (by omega) (hz_gsOk h1 h2) (hz_gqOk h1 h2) hz_c5)
theorem hz_engD {bx sx by' sy : Nat} (h1 : 0 < sx) (h2 : 0 < sy) : ∀ e, e < 6 → hz_eng 23 (hz_X bx sx hz_qx) (hz_X by' sy hz_qy) e 5 (hz_h [0, 20, 22, 19, 3]) :=
  hz_mem6 (hz_eng0 (by omega) (hz_gsOk h1 h2) (hz_gqOk h1 h2) hz_d0) (hz_eng1 (by omega) (by omega) (hz_gsOk h1 h2) (hz_gqOk h1 h2) hz_d1) (hz_eng2 (by omega) (by omega) (hz_gsOk h1 h2) hz_d2) (hz_eng3 (by omega) (by omega) (hz_gfOk h1 h2) hz_d3) (hz_eng4 (by omega) (by omega) (hz_gsOk h1 h2) hz_d4) (hz_eng5 (by omega) (by omega) (hz_gsOk h1 h2) (hz_gqOk h1 h2) hz_d5)
theorem hz_engI {bx sx by' sy : Nat} (h1 : 0 < sx) (h2 : 0 < sy) : hz_eng 8 (hz_X bx sx hz_ux) (hz_X by' sy hz_uy) 2 4 (hz_h [0, 6, 7, 1]) := hz_eng2 (by omega) (by omega) (hz_gsOk h1 h2) hz_i2
/-- the script's numbers -/
def hz_par (bx by' sx sy : Nat) : Prop := bx ≤ 15 ∧ by' ≤ 15 ∧ 1 ≤ sx ∧ sx ≤ 9 ∧ 1 ≤ sy ∧ sy ≤ 12
/-- the first K points lie on the grid -/
def hz_pic (bx by' sx sy K : Nat) (a1 : Nat → Int32) : Prop := ∀ k, k < K → a1 k = nI ((bx + sx * (k / 4)) + 64 * (by' + sy * (k % 4)))
theorem hz_bnd {bx by' sx sy k : Nat} (hp : hz_par bx by' sx sy) (hk : k < 24) : bx + sx * (k / 4) ≤ 60 ∧ by' + sy * (k % 4) ≤ 51 := by
  obtain ⟨p1, p2, p3, p4, p5, p6⟩ := hp
  have q1 : sx * (k / 4) ≤ 9 * 5 := Nat.mul_le_mul p4 (by omega)
  have q2 : sy * (k % 4) ≤ 12 * 3 := Nat.mul_le_mul p6 (by omega)
  omega
theorem hz_inc {bx by' sx sy j k : Nat} (hp : hz_par bx by' sx sy) (hjk : j < k) (hk : k < 24) : (bx + sx * (j / 4)) * 64 + (by' + sy * (j % 4)) < (bx + sx * (k / 4)) * 64 + (by' + sy * (k % 4)) := by
  have b1 := hz_bnd hp (show j < 24 by omega)
  obtain ⟨p1, p2, p3, p4, p5, p6⟩ := hp
  by_cases e : j / 4 = k / 4
  · have q : sy * (j % 4) < sy * (k % 4) := Nat.mul_lt_mul_of_pos_left (by omega) (by omega)
    rw [e]
    omega
  · have q : sx * (j / 4 + 1) ≤ sx * (k / 4) := Nat.mul_le_mul_left sx (by omega)
    rw [Nat.mul_add] at q
    omega
theorem hz_cfgC {bx by' sx sy : Nat} {a1 : Nat → Int32} (hp : hz_par bx by' sx sy) (ha : hz_pic bx by' sx sy 24 a1) : hz_cfg (nI (2 ^ 24 - 1)) a1 24 (hz_X bx sx hz_qx) (hz_X by' sy hz_qy) :=
  hz_gather (fun k => k) (fun j => j) (fun k => bx + sx * (k / 4)) (fun k => by' + sy * (k % 4)) (fun _ => true)
    (fun k hk => ⟨fun z => absurd ((hz_bit 24 (by omega) k hk).mp z) (by omega), fun z => absurd z (by decide)⟩) rfl (fun k _ _ => ⟨rfl, rfl⟩) (fun k _ z => absurd z (by decide))
    (fun k hk _ => ⟨ha k hk, by have := hz_bnd hp hk; show bx + sx * (k / 4) < 64; omega, by have := hz_bnd hp hk; show by' + sy * (k % 4) < 64; omega⟩)
    (fun j k hjk hk _ _ => hz_inc hp hjk hk)
theorem hz_cfgD {bx by' sx sy : Nat} {a1 : Nat → Int32} (hp : hz_par bx by' sx sy) (ha : hz_pic bx by' sx sy 23 a1) : hz_cfg (nI (2 ^ 23 - 1)) a1 23 (hz_X bx sx hz_qx) (hz_X by' sy hz_qy) :=
  hz_gather (fun k => min k 23) (fun j => j) (fun k => bx + sx * (k / 4)) (fun k => by' + sy * (k % 4)) (fun k => decide (k < 23))
    (fun k hk => ⟨fun z => decide_eq_false (by have := (hz_bit 23 (by omega) k hk).mp z; omega), fun z => (hz_bit 23 (by omega) k hk).mpr (by have := of_decide_eq_false z; omega)⟩) rfl
    (fun k _ z => by have := of_decide_eq_true z; exact ⟨by show min (k + 1) 23 = min k 23 + 1; omega, by show min k 23 = k; omega⟩) (fun k _ z => by have := of_decide_eq_false z; show min (k + 1) 23 = min k 23; omega)
    (fun k hk z => ⟨ha k (of_decide_eq_true z), by have := hz_bnd hp hk; show bx + sx * (k / 4) < 64; omega, by have := hz_bnd hp hk; show by' + sy * (k % 4) < 64; omega⟩)
    (fun j k hjk hk _ _ => hz_inc hp hjk hk)
def hz_slI (k : Nat) : Bool := decide (1 ≤ k / 4 ∧ k / 4 ≤ 4 ∧ 1 ≤ k % 4 ∧ k % 4 ≤ 2)
def hz_cnI (k : Nat) : Nat := ((List.range k).filter hz_slI).length
theorem hz_bitI : ∀ k, k < 24 → ((((419424 : Int32) >>> (nI k &&& 31)) &&& 1) = 0 ↔ hz_slI k = false) := by decide +kernel
theorem hz_cnI1 : ∀ k, k < 24 → hz_slI k = true → hz_cnI (k + 1) = hz_cnI k + 1 ∧ hz_ix (hz_cnI k) = k := by decide +kernel
theorem hz_cnI0 : ∀ k, k < 24 → hz_slI k = false → hz_cnI (k + 1) = hz_cnI k := by decide +kernel
theorem hz_cfgI {bx by' sx sy : Nat} {a1 : Nat → Int32} (hp : hz_par bx by' sx sy) (ha : hz_pic bx by' sx sy 24 a1) : hz_cfg 419424 a1 8 (hz_X bx sx hz_ux) (hz_X by' sy hz_uy) :=
  hz_gather hz_cnI hz_ix (fun k => bx + sx * (k / 4)) (fun k => by' + sy * (k % 4)) hz_slI hz_bitI rfl hz_cnI1 hz_cnI0
    (fun k hk _ => ⟨ha k hk, by have := hz_bnd hp hk; show bx + sx * (k / 4) < 64; omega, by have := hz_bnd hp hk; show by' + sy * (k % 4) < 64; omega⟩)
    (fun j k hjk hk _ _ => hz_inc hp hjk hk)
theorem hz_cfg0 {a1 : Nat → Int32} : hz_cfg 0 a1 0 (hz_X 0 0 hz_qx) (hz_X 0 0 hz_qy) :=
  hz_gather (fun _ => 0) (fun j => j) (fun k => 0 + 0 * (k / 4)) (fun k => 0 + 0 * (k % 4)) (fun _ => false)
    (fun k hk => ⟨fun _ => rfl, fun _ => (hz_bit 0 (by omega) k hk).mpr (by omega)⟩) rfl (fun k _ z => absurd z (by decide)) (fun k _ _ => rfl) (fun k _ z => absurd z (by decide)) (fun j k _ _ z _ => absurd z (by decide))
theorem hz_solC {bx by' sx sy : Nat} {a1 : Nat → Int32} (hp : hz_par bx by' sx sy) (ha : hz_pic bx by' sx sy 24 a1) (e : Nat) (he : e < 6) : hz_sol (nI (2 ^ 24 - 1)) a1 24 (hz_X bx sx hz_qx) (hz_X by' sy hz_qy) e 4 (hz_h [0, 20, 23, 3]) := hz_solve he (by omega) (by omega) (hz_cfgC hp ha) (hz_engC hp.2.2.1 hp.2.2.2.2.1 e he)
theorem hz_solD {bx by' sx sy : Nat} {a1 : Nat → Int32} (hp : hz_par bx by' sx sy) (ha : hz_pic bx by' sx sy 23 a1) (e : Nat) (he : e < 6) : hz_sol (nI (2 ^ 23 - 1)) a1 23 (hz_X bx sx hz_qx) (hz_X by' sy hz_qy) e 5 (hz_h [0, 20, 22, 19, 3]) := hz_solve he (by omega) (by omega) (hz_cfgD hp ha) (hz_engD hp.2.2.1 hp.2.2.2.2.1 e he)
theorem hz_solI {bx by' sx sy : Nat} {a1 : Nat → Int32} (hp : hz_par bx by' sx sy) (ha : hz_pic bx by' sx sy 24 a1) : hz_sol 419424 a1 8 (hz_X bx sx hz_ux) (hz_X by' sy hz_uy) 2 4 (hz_h [0, 6, 7, 1]) := hz_solve (by omega) (by omega) (by omega) (hz_cfgI hp ha) (hz_engI hp.2.2.1 hp.2.2.2.2.1)
theorem hz_sol0 {a1 : Nat → Int32} {e : Nat} : hz_sol 0 a1 0 (hz_X 0 0 hz_qx) (hz_X 0 0 hz_qy) e 0 (hz_h []) := hz_solve0 hz_cfg0
/-- where, on the unit grid -/
def hz_gp (gx gy : Nat → Nat) (p q a b : Nat) : Nat := hz_cmp (gx a * gy b + gx b * q + p * gy a) (gx b * gy a + p * gy b + gx a * q)
def hz_gb (gx gy : Nat → Nat) (p q a b : Nat) : Nat := if ((p : Int) - gx a) * ((p : Int) - gx b) ≤ 0 ∧ ((q : Int) - gy a) * ((q : Int) - gy b) ≤ 0 then 1 else if 0 ≤ ((p : Int) - gx a) * ((p : Int) - gx b) ∧ 0 ≤ ((q : Int) - gy a) * ((q : Int) - gy b) then 0 else 2
theorem hz_gpOk {bx sx by' sy n p q : Nat} {gx gy : Nat → Nat} (h1 : 0 < sx) (h2 : 0 < sy) : hz_sp n (hz_X bx sx gx) (hz_X by' sy gy) (bx + sx * p) (by' + sy * q) (hz_gp gx gy p q) := by
  have hC : (0 : Int) < ((sx * sy : Nat) : Int) := by
    have := Nat.mul_pos h1 h2
    omega
  intro a b _ _
  have E : hz_cp (hz_X bx sx gx) (hz_X by' sy gy) ((bx + sx * p : Nat) : Int) ((by' + sy * q : Nat) : Int) a b = ((sx * sy : Nat) : Int) * (((gx a * gy b + gx b * q + p * gy a : Nat) : Int) - ((gx b * gy a + p * gy b + gx a * q : Nat) : Int)) := by
    unfold hz_cp hz_X
    simp only [Int.natCast_add, Int.natCast_mul]
    exact hz_poly _ _ _ _ _ _ _ _ _ _
  rw [E]
  unfold hz_gp
  refine ⟨fun h => ?_, fun h => ?_, fun h => ?_⟩
  · exact Int.mul_neg_of_pos_of_neg hC (by have := hz_cmp0 h; omega)
  · rw [hz_cmp1 h, Int.sub_self, Int.mul_zero]
  · exact Int.mul_pos hC (by have := hz_cmp2 h; omega)
theorem hz_poly2 (bx sx by' sy p q xa xb ya yb : Int) : ((bx + sx * p) - (bx + sx * xa)) * ((bx + sx * p) - (bx + sx * xb)) + ((by' + sy * q) - (by' + sy * ya)) * ((by' + sy * q) - (by' + sy * yb)) = (sx * sx) * ((p - xa) * (p - xb)) + (sy * sy) * ((q - ya) * (q - yb)) := by grind
theorem hz_gbOk {bx sx by' sy n p q : Nat} {gx gy : Nat → Nat} (h1 : 0 < sx) (h2 : 0 < sy) : hz_bt n (hz_X bx sx gx) (hz_X by' sy gy) (bx + sx * p) (by' + sy * q) (hz_gb gx gy p q) := by
  have c1 : (0 : Int) < (sx : Int) * (sx : Int) := Int.mul_pos (by omega) (by omega)
  have c2 : (0 : Int) < (sy : Int) * (sy : Int) := Int.mul_pos (by omega) (by omega)
  intro a b _ _
  have E : hz_al (hz_X bx sx gx) (hz_X by' sy gy) ((bx + sx * p : Nat) : Int) ((by' + sy * q : Nat) : Int) a b = ((sx : Int) * sx) * (((p : Int) - gx a) * ((p : Int) - gx b)) + ((sy : Int) * sy) * (((q : Int) - gy a) * ((q : Int) - gy b)) := by
    unfold hz_al hz_X
    simp only [Int.natCast_add, Int.natCast_mul]
    exact hz_poly2 _ _ _ _ _ _ _ _ _ _
  rw [E]
  unfold hz_gb
  generalize ((p : Int) - gx a) * ((p : Int) - gx b) = u
  generalize ((q : Int) - gy a) * ((q : Int) - gy b) = v
  generalize (sx : Int) * (sx : Int) = c at c1 ⊢
  generalize (sy : Int) * (sy : Int) = d at c2 ⊢
  by_cases z : u ≤ 0 ∧ v ≤ 0
  · rw [if_pos z]
    refine ⟨fun h => absurd h (by decide), fun _ => ?_⟩
    have q1 : c * u ≤ 0 := Int.mul_nonpos_of_nonneg_of_nonpos (by omega) z.1
    have q2 : d * v ≤ 0 := Int.mul_nonpos_of_nonneg_of_nonpos (by omega) z.2
    omega
  · rw [if_neg z]
    by_cases w : 0 ≤ u ∧ 0 ≤ v
    · rw [if_pos w]
      refine ⟨fun _ => ?_, fun h => absurd h (by decide)⟩
      have q1 : 0 ≤ c * u := Int.mul_nonneg (by omega) w.1
      have q2 : 0 ≤ d * v := Int.mul_nonneg (by omega) w.2
      have t : 0 < u ∨ 0 < v := by omega
      rcases t with t | t
      · have := Int.mul_pos c1 t
        omega
      · have := Int.mul_pos c2 t
        omega
    · rw [if_neg w]
      exact ⟨fun h => absurd h (by decide), fun h => absurd h (by decide)⟩
theorem hz_wqG {bx sx by' sy n s p q v : Nat} {gx gy : Nat → Nat} {h : Nat → Nat} (h1 : 0 < sx) (h2 : 0 < sy) (b1 : bx + sx * p < 64) (b2 : by' + sy * q < 64) (hw : hz_wh (hz_gp gx gy p q) (hz_gb gx gy p q) h s = some v) : hz_wq n (hz_X bx sx gx) (hz_X by' sy gy) s h (bx + sx * p) (by' + sy * q) v := ⟨b1, b2, _, _, hz_gpOk h1 h2, hz_gbOk h1 h2, hw⟩
/-- what 'where' says of the grid's points -/
def hz_vC (k : Nat) : Nat := if k / 4 = 0 ∨ k / 4 = 5 ∨ k % 4 = 0 ∨ k % 4 = 3 then 1 else 2
theorem hz_whC : ∀ k, k < 24 → hz_wh (hz_gp hz_qx hz_qy (k / 4) (k % 4)) (hz_gb hz_qx hz_qy (k / 4) (k % 4)) (hz_h [0, 20, 23, 3]) 4 = some (hz_vC k) := by decide +kernel
theorem hz_whD : ∀ k, k < 23 → hz_wh (hz_gp hz_qx hz_qy (k / 4) (k % 4)) (hz_gb hz_qx hz_qy (k / 4) (k % 4)) (hz_h [0, 20, 22, 19, 3]) 5 = some (hz_vC k) := by decide +kernel
theorem hz_whD2 : hz_wh (hz_gp hz_qx hz_qy 5 3) (hz_gb hz_qx hz_qy 5 3) (hz_h [0, 20, 22, 19, 3]) 5 = some 0 := by decide +kernel
theorem hz_whI : ∀ k, k < 24 → hz_slI k = true → hz_wh (hz_gp hz_ux hz_uy (k / 4) (k % 4)) (hz_gb hz_ux hz_uy (k / 4) (k % 4)) (hz_h [0, 6, 7, 1]) 4 = some 1 := by decide +kernel
theorem hz_hC : ∀ j, j < 4 → hz_h [0, 20, 23, 3] j < 24 := by decide
theorem hz_hD : ∀ j, j < 5 → hz_h [0, 20, 22, 19, 3] j < 23 := by decide
theorem hz_hI : ∀ j, j < 4 → hz_h [0, 6, 7, 1] j < 8 := by decide
theorem hz_vC24 (k : Nat) : hz_vC k < 24 := by
  unfold hz_vC
  by_cases h : k / 4 = 0 ∨ k / 4 = 5 ∨ k % 4 = 0 ∨ k % 4 = 3
  · rw [if_pos h]; omega
  · rw [if_neg h]; omega
theorem hz_boC {bx by' sx sy : Nat} {a1 : Nat → Int32} (hp : hz_par bx by' sx sy) (ha : hz_pic bx by' sx sy 24 a1) : hz_bo (nI (2 ^ 24 - 1)) a1 16357791 := by
  have := hz_border (h := hz_h [0, 20, 23, 3]) hz_vC (fun _ => true) (by omega) (by omega) hz_hC (hz_solC hp ha 2 (by omega)) (fun k hk => ⟨fun z => absurd ((hz_bit 24 (by omega) k hk).mp z) (by omega), fun z => absurd z (by decide)⟩)
    (fun k hk _ => ⟨_, _, ha k hk, hz_wqG hp.2.2.1 hp.2.2.2.2.1 (by have := hz_bnd hp hk; omega) (by have := hz_bnd hp hk; omega) (hz_whC k hk), hz_vC24 k⟩)
  rw [show hz_bd (fun k => true && (hz_vC k == 1)) 24 = 16357791 by decide +kernel] at this
  exact this
theorem hz_boI {bx by' sx sy : Nat} {a1 : Nat → Int32} (hp : hz_par bx by' sx sy) (ha : hz_pic bx by' sx sy 24 a1) : hz_bo 419424 a1 419424 := by
  have := hz_border (h := hz_h [0, 6, 7, 1]) (fun _ => 1) hz_slI (by omega) (by omega) hz_hI (hz_solI hp ha) hz_bitI
    (fun k hk hs => ⟨_, _, ha k hk, hz_wqG hp.2.2.1 hp.2.2.2.2.1 (by have := hz_bnd hp hk; omega) (by have := hz_bnd hp hk; omega) (hz_whI k hk hs), by omega⟩)
  rw [show hz_bd (fun k => hz_slI k && (1 == 1)) 24 = 419424 by decide +kernel] at this
  exact this
theorem hz_boD {bx by' sx sy : Nat} {a1 : Nat → Int32} (hp : hz_par bx by' sx sy) (ha : hz_pic bx by' sx sy 23 a1) : hz_bo (nI (2 ^ 23 - 1)) a1 7969183 := by
  have := hz_border (h := hz_h [0, 20, 22, 19, 3]) hz_vC (fun k => decide (k < 23)) (by omega) (by omega) hz_hD (hz_solD hp ha 2 (by omega)) (fun k hk => ⟨fun z => decide_eq_false (by have := (hz_bit 23 (by omega) k hk).mp z; omega), fun z => (hz_bit 23 (by omega) k hk).mpr (by have := of_decide_eq_false z; omega)⟩)
    (fun k hk z => ⟨_, _, ha k (of_decide_eq_true z), hz_wqG hp.2.2.1 hp.2.2.2.2.1 (by have := hz_bnd hp hk; omega) (by have := hz_bnd hp hk; omega) (hz_whD k (of_decide_eq_true z)), hz_vC24 k⟩)
  rw [show hz_bd (fun k => decide (k < 23) && (hz_vC k == 1)) 24 = 7969183 by decide +kernel] at this
  exact this
theorem hz_bo0 {a1 : Nat → Int32} : hz_bo 0 a1 0 := by
  have := hz_border (h := hz_h []) (fun _ => 0) (fun _ => false) (by omega) (by omega) (fun j hj => absurd hj (by omega)) (hz_sol0 (a1 := a1) (e := 2)) (fun k hk => ⟨fun _ => rfl, fun _ => (hz_bit 0 (by omega) k hk).mpr (by omega)⟩) (fun k _ z => absurd z (by decide))
  rw [show hz_bd (fun k => false && (0 == 1)) 24 = 0 by decide +kernel] at this
  exact this
end
section
/-- unit coordinates; number 24 is the corner that was taken away -/
def hz_vx (j : Nat) : Nat := if j = 24 then 5 else j / 4
def hz_vy (j : Nat) : Nat := if j = 24 then 3 else j % 4
/-- coordinates, number 23 far away -/
def hz_EX (b s : Nat) (g : Nat → Nat) (j : Nat) : Int := if j = 23 then 63 else ((b + s * g j : Nat) : Int)
def hz_lf (a b : Nat) : Int × Int × Int := ((hz_vx b : Int) - hz_vx a, -((hz_vy b : Int) - hz_vy a), ((hz_vy b : Int) - hz_vy a) * hz_vx a - ((hz_vx b : Int) - hz_vx a) * hz_vy a)
def hz_tt (a b c : Nat) : Int := ((hz_vx b : Int) - hz_vx a) * ((hz_vy c : Int) - hz_vy a) - ((hz_vy b : Int) - hz_vy a) * ((hz_vx c : Int) - hz_vx a)
/-- the turn as a linear form -/
def hz_co (a b c : Nat) : Int × Int × Int := if c = 23 then (if a = 23 ∨ b = 23 then (0, 0, 0) else hz_lf a b) else if a = 23 then (if b = 23 then (0, 0, 0) else hz_lf b c) else if b = 23 then hz_lf c a else (0, 0, hz_tt a b c)
def hz_lin (A B C : Int) (v : Int × Int × Int) : Int := v.1 * A + v.2.1 * B + v.2.2 * C
theorem hz_p1 (bx sx by' sy xa xb xc ya yb yc : Int) : ((bx + sx * xb) - (bx + sx * xa)) * ((by' + sy * yc) - (by' + sy * ya)) - ((by' + sy * yb) - (by' + sy * ya)) * ((bx + sx * xc) - (bx + sx * xa)) = 0 * (sx * (63 - by')) + 0 * (sy * (63 - bx)) + ((xb - xa) * (yc - ya) - (yb - ya) * (xc - xa)) * (sx * sy) := by grind
theorem hz_p2 (bx sx by' sy xa xb ya yb : Int) : ((bx + sx * xb) - (bx + sx * xa)) * (63 - (by' + sy * ya)) - ((by' + sy * yb) - (by' + sy * ya)) * (63 - (bx + sx * xa)) = (xb - xa) * (sx * (63 - by')) + -(yb - ya) * (sy * (63 - bx)) + ((yb - ya) * xa - (xb - xa) * ya) * (sx * sy) := by grind
theorem hz_p3 (bx sx by' sy xa xb ya yb : Int) : ((bx + sx * xa) - 63) * ((by' + sy * yb) - 63) - ((by' + sy * ya) - 63) * ((bx + sx * xb) - 63) = (xb - xa) * (sx * (63 - by')) + -(yb - ya) * (sy * (63 - bx)) + ((yb - ya) * xa - (xb - xa) * ya) * (sx * sy) := by grind
theorem hz_p4 (bx sx by' sy xa xb ya yb : Int) : (63 - (bx + sx * xb)) * ((by' + sy * ya) - (by' + sy * yb)) - (63 - (by' + sy * yb)) * ((bx + sx * xa) - (bx + sx * xb)) = (xb - xa) * (sx * (63 - by')) + -(yb - ya) * (sy * (63 - bx)) + ((yb - ya) * xa - (xb - xa) * ya) * (sx * sy) := by grind
theorem hz_EX1 {b s j : Nat} {g : Nat → Nat} (h : j = 23) : hz_EX b s g j = 63 := if_pos h
theorem hz_EX0 {b s j : Nat} {g : Nat → Nat} (h : ¬ j = 23) : hz_EX b s g j = (b : Int) + (s : Int) * (g j : Int) := by
  unfold hz_EX
  rw [if_neg h]
  simp only [Int.natCast_add, Int.natCast_mul]
theorem hz_crE (bx sx by' sy a b c : Nat) : hz_cr (hz_EX bx sx hz_vx) (hz_EX by' sy hz_vy) a b c = hz_lin ((sx : Int) * (63 - (by' : Int))) ((sy : Int) * (63 - (bx : Int))) ((sx : Int) * (sy : Int)) (hz_co a b c) := by
  unfold hz_cr hz_co
  by_cases hc : c = 23
  · rw [if_pos hc, hz_EX1 hc, hz_EX1 hc]
    by_cases ha : a = 23
    · rw [if_pos (Or.inl ha), hz_EX1 ha, hz_EX1 ha]
      unfold hz_lin
      simp
    · by_cases hb : b = 23
      · rw [if_pos (Or.inr hb), hz_EX1 hb, hz_EX1 hb, hz_EX0 ha, hz_EX0 ha]
        unfold hz_lin
        simp
        grind
      · rw [if_neg (by omega), hz_EX0 ha, hz_EX0 ha, hz_EX0 hb, hz_EX0 hb]
        exact hz_p2 _ _ _ _ _ _ _ _
  · rw [if_neg hc, hz_EX0 hc, hz_EX0 hc]
    by_cases ha : a = 23
    · rw [if_pos ha, hz_EX1 ha, hz_EX1 ha]
      by_cases hb : b = 23
      · rw [if_pos hb, hz_EX1 hb, hz_EX1 hb]
        unfold hz_lin
        simp
      · rw [if_neg hb, hz_EX0 hb, hz_EX0 hb]
        exact hz_p3 _ _ _ _ _ _ _ _
    · rw [if_neg ha, hz_EX0 ha, hz_EX0 ha]
      by_cases hb : b = 23
      · rw [if_pos hb, hz_EX1 hb, hz_EX1 hb]
        exact hz_p4 _ _ _ _ _ _ _ _
      · rw [if_neg hb, hz_EX0 hb, hz_EX0 hb]
        exact hz_p1 _ _ _ _ _ _ _ _ _ _
/-- A, B, C as they may be -/
def hz_cone (A B C : Int) : Prop := 3 * C < A ∧ 5 * C < B ∧ 0 < C
def hz_pp (v : Int × Int × Int) : Bool := decide (0 ≤ v.1 ∧ 0 ≤ v.2.1 ∧ 0 ≤ 3 * v.1 + 5 * v.2.1 + v.2.2 ∧ 0 < v.1 + v.2.1 + (3 * v.1 + 5 * v.2.1 + v.2.2))
def hz_ng (v : Int × Int × Int) : Int × Int × Int := (-v.1, -v.2.1, -v.2.2)
theorem hz_ppOk {A B C : Int} {v : Int × Int × Int} (hc : hz_cone A B C) (h : hz_pp v = true) : 0 < hz_lin A B C v := by
  obtain ⟨x, y, z⟩ := v
  obtain ⟨h1, h2, h3, h4⟩ := of_decide_eq_true h
  obtain ⟨c1, c2, c3⟩ := hc
  have h1 : 0 ≤ x := h1
  have h2 : 0 ≤ y := h2
  have h3 : 0 ≤ 3 * x + 5 * y + z := h3
  have h4 : 0 < x + y + (3 * x + 5 * y + z) := h4
  have e : hz_lin A B C (x, y, z) = x * (A - 3 * C) + y * (B - 5 * C) + (3 * x + 5 * y + z) * C := by
    show x * A + y * B + z * C = _
    grind
  rw [e]
  have q1 : 0 ≤ x * (A - 3 * C) := Int.mul_nonneg h1 (by omega)
  have q2 : 0 ≤ y * (B - 5 * C) := Int.mul_nonneg h2 (by omega)
  have q3 : 0 ≤ (3 * x + 5 * y + z) * C := Int.mul_nonneg h3 (by omega)
  have t : 0 < x ∨ 0 < y ∨ 0 < 3 * x + 5 * y + z := by omega
  rcases t with t | t | t
  · have := Int.mul_pos t (show 0 < A - 3 * C by omega)
    omega
  · have := Int.mul_pos t (show 0 < B - 5 * C by omega)
    omega
  · have := Int.mul_pos t c3
    omega
theorem hz_linN {A B C : Int} {v : Int × Int × Int} : hz_lin A B C (hz_ng v) = -hz_lin A B C v := by
  unfold hz_lin hz_ng
  grind
/-- signs that are known, by their forms -/
def hz_kn : List ((Int × Int × Int) × Nat) → Int × Int × Int → Nat
  | [], _ => 3
  | e :: t, v => if e.1.1 = v.1 ∧ e.1.2.1 = v.2.1 ∧ e.1.2.2 = v.2.2 then e.2 else if e.1.1 = -v.1 ∧ e.1.2.1 = -v.2.1 ∧ e.1.2.2 = -v.2.2 then 2 - e.2 else hz_kn t v
def hz_sgn (s : Nat) (z : Int) : Prop := (s = 0 ∧ z < 0) ∨ (s = 1 ∧ z = 0) ∨ (s = 2 ∧ 0 < z)
def hz_kok (A B C : Int) : List ((Int × Int × Int) × Nat) → Prop
  | [] => True
  | e :: t => hz_sgn e.2 (hz_lin A B C e.1) ∧ hz_kok A B C t
def hz_r3 (t : Nat) (z : Int) : Prop := (t = 0 → z < 0) ∧ (t = 1 → z = 0) ∧ (t = 2 → 0 < z)
theorem hz_knOk {A B C : Int} (v : Int × Int × Int) : ∀ l, hz_kok A B C l → hz_r3 (hz_kn l v) (hz_lin A B C v) := by
  intro l
  induction l with
  | nil => intro _; exact ⟨fun h => absurd h (by simp [hz_kn]), fun h => absurd h (by simp [hz_kn]), fun h => absurd h (by simp [hz_kn])⟩
  | cons e t ih =>
    intro hk
    obtain ⟨⟨x, y, z⟩, s⟩ := e
    obtain ⟨p, q, r⟩ := v
    obtain ⟨k1, k2⟩ := hk
    have k1 : hz_sgn s (hz_lin A B C (x, y, z)) := k1
    rw [hz_kn]
    by_cases c1 : x = p ∧ y = q ∧ z = r
    · obtain ⟨rfl, rfl, rfl⟩ := c1
      rw [if_pos ⟨rfl, rfl, rfl⟩]
      show hz_r3 s _
      unfold hz_r3
      rcases k1 with ⟨k, h⟩ | ⟨k, h⟩ | ⟨k, h⟩ <;> refine ⟨fun _ => ?_, fun _ => ?_, fun _ => ?_⟩ <;> omega
    · rw [if_neg c1]
      by_cases c2 : x = -p ∧ y = -q ∧ z = -r
      · rw [if_pos c2]
        obtain ⟨rfl, rfl, rfl⟩ := c2
        have e : hz_lin A B C (-p, -q, -r) = -hz_lin A B C (p, q, r) := hz_linN (v := (p, q, r))
        rw [e] at k1
        show hz_r3 (2 - s) _
        unfold hz_r3
        rcases k1 with ⟨k, h⟩ | ⟨k, h⟩ | ⟨k, h⟩ <;> refine ⟨fun _ => ?_, fun _ => ?_, fun _ => ?_⟩ <;> omega
      · rw [if_neg c2]
        exact ih k2
/-- the sign of a form -/
def hz_fs (l : List ((Int × Int × Int) × Nat)) (v : Int × Int × Int) : Nat := if hz_pp v then 2 else if hz_pp (hz_ng v) then 0 else if v.1 = 0 ∧ v.2.1 = 0 ∧ v.2.2 = 0 then 1 else hz_kn l v
theorem hz_fsOk {A B C : Int} {l : List ((Int × Int × Int) × Nat)} (hc : hz_cone A B C) (hk : hz_kok A B C l) (v : Int × Int × Int) : hz_r3 (hz_fs l v) (hz_lin A B C v) := by
  unfold hz_fs
  by_cases h1 : hz_pp v = true
  · rw [if_pos h1]
    exact ⟨fun h => absurd h (by decide), fun h => absurd h (by decide), fun _ => hz_ppOk hc h1⟩
  · rw [if_neg h1]
    by_cases h2 : hz_pp (hz_ng v) = true
    · rw [if_pos h2]
      have := hz_ppOk hc h2
      rw [hz_linN] at this
      exact ⟨fun _ => by omega, fun h => absurd h (by decide), fun h => absurd h (by decide)⟩
    · rw [if_neg h2]
      by_cases h3 : v.1 = 0 ∧ v.2.1 = 0 ∧ v.2.2 = 0
      · rw [if_pos h3]
        refine ⟨fun h => absurd h (by decide), fun _ => ?_, fun h => absurd h (by decide)⟩
        unfold hz_lin
        rw [h3.1, h3.2.1, h3.2.2]
        simp
      · rw [if_neg h3]
        exact hz_knOk v l hk
def hz_sgE (l : List ((Int × Int × Int) × Nat)) (a b c : Nat) : Nat := if a < 24 ∧ b < 24 ∧ c < 24 then hz_fs l (hz_co a b c) else 3
theorem hz_coneE {bx by' sx sy : Nat} (hp : hz_par bx by' sx sy) : hz_cone ((sx : Int) * (63 - (by' : Int))) ((sy : Int) * (63 - (bx : Int))) ((sx : Int) * (sy : Int)) := by
  obtain ⟨p1, p2, p3, p4, p5, p6⟩ := hp
  have e1 : 3 * ((sx : Int) * sy) = (sx : Int) * (3 * sy) := by grind
  have e2 : 5 * ((sx : Int) * sy) = (sy : Int) * (5 * sx) := by grind
  refine ⟨?_, ?_, Int.mul_pos (by omega) (by omega)⟩
  · rw [e1]
    exact Int.mul_lt_mul_of_pos_left (by omega) (by omega)
  · rw [e2]
    exact Int.mul_lt_mul_of_pos_left (by omega) (by omega)
theorem hz_sgEOk {bx by' sx sy : Nat} {l : List ((Int × Int × Int) × Nat)} (hp : hz_par bx by' sx sy) (hk : hz_kok ((sx : Int) * (63 - (by' : Int))) ((sy : Int) * (63 - (bx : Int))) ((sx : Int) * (sy : Int)) l) : hz_sg 24 (hz_EX bx sx hz_vx) (hz_EX by' sy hz_vy) (hz_sgE l) := by
  intro a b c
  rw [hz_crE]
  have h := hz_fsOk (hz_coneE hp) hk (hz_co a b c)
  unfold hz_sgE
  by_cases hb : a < 24 ∧ b < 24 ∧ c < 24
  · rw [if_pos hb]
    exact ⟨fun z => ⟨hb.1, hb.2.1, hb.2.2, h.1 z⟩, fun z => ⟨hb.1, hb.2.1, hb.2.2, h.2.1 z⟩, fun z => ⟨hb.1, hb.2.1, hb.2.2, h.2.2 z⟩⟩
  · rw [if_neg hb]
    exact ⟨fun z => absurd z (by decide), fun z => absurd z (by decide), fun z => absurd z (by decide)⟩
/-- squares: of those with the far place only what is plain -/
def hz_sqE (a b c d : Nat) : Nat := if a < 24 ∧ b < 24 ∧ c < 24 ∧ d < 24 then (if a = b ∨ (a = c ∧ b = d) then 0 else if a < 23 ∧ b < 23 ∧ c < 23 ∧ d < 23 then hz_gq hz_qx hz_qy 23 a b c d else if a = 0 ∧ c = 0 ∧ d = 23 ∧ b < 23 then 0 else 2) else 2
theorem hz_svNN (X Y : Nat → Int) (a b : Nat) : 0 ≤ hz_sv X Y a b := by
  have sq : ∀ z : Int, 0 ≤ z * z := by
    intro z
    rcases Int.le_total 0 z with h | h
    · exact Int.mul_nonneg h h
    · exact Int.mul_nonneg_of_nonpos_of_nonpos h h
  have := sq (X a - X b)
  have := sq (Y a - Y b)
  unfold hz_sv
  omega
theorem hz_sqm {x y : Int} (h0 : 0 ≤ x) (h : x ≤ y) : x * x ≤ y * y := Int.mul_le_mul h h h0 (by omega)
theorem hz_EXg {b s j : Nat} (h : j < 23) : hz_EX b s hz_vx j = hz_X b s hz_qx j := by
  unfold hz_EX hz_X hz_vx hz_qx
  rw [if_neg (by omega), if_neg (by omega)]
theorem hz_EYg {b s j : Nat} (h : j < 23) : hz_EX b s hz_vy j = hz_X b s hz_qy j := by
  unfold hz_EX hz_X hz_vy hz_qy
  rw [if_neg (by omega), if_neg (by omega)]
theorem hz_svg {bx by' sx sy a b : Nat} (ha : a < 23) (hb : b < 23) : hz_sv (hz_EX bx sx hz_vx) (hz_EX by' sy hz_vy) a b = hz_sv (hz_X bx sx hz_qx) (hz_X by' sy hz_qy) a b := by
  unfold hz_sv
  rw [hz_EXg ha, hz_EXg hb, hz_EYg ha, hz_EYg hb]
theorem hz_sqEOk {bx by' sx sy : Nat} (hp : hz_par bx by' sx sy) : hz_sq 24 (hz_EX bx sx hz_vx) (hz_EX by' sy hz_vy) hz_sqE := by
  intro a b c d
  unfold hz_sqE
  by_cases hb : a < 24 ∧ b < 24 ∧ c < 24 ∧ d < 24
  · rw [if_pos hb]
    obtain ⟨b1, b2, b3, b4⟩ := hb
    by_cases h1 : a = b ∨ (a = c ∧ b = d)
    · rw [if_pos h1]
      refine ⟨fun _ => ⟨b1, b2, b3, b4, ?_⟩, fun h => absurd h (by decide)⟩
      rcases h1 with h1 | ⟨h1, h2⟩
      · subst h1
        have := hz_svNN (hz_EX bx sx hz_vx) (hz_EX by' sy hz_vy) c d
        unfold hz_sv at this ⊢
        rw [Int.sub_self, Int.sub_self]
        omega
      · subst h1 h2
        exact Int.le_refl _
    · rw [if_neg h1]
      by_cases h2 : a < 23 ∧ b < 23 ∧ c < 23 ∧ d < 23
      · rw [if_pos h2]
        obtain ⟨g1, g2, g3, g4⟩ := h2
        rw [hz_svg g1 g2, hz_svg g3 g4]
        have := hz_gqOk (bx := bx) (by' := by') (n := 23) (gx := hz_qx) (gy := hz_qy) hp.2.2.1 hp.2.2.2.2.1 a b c d
        exact ⟨fun h => ⟨b1, b2, b3, b4, (this.1 h).2.2.2.2⟩, fun h => ⟨b1, b2, b3, b4, (this.2 h).2.2.2.2⟩⟩
      · rw [if_neg h2]
        by_cases h3 : a = 0 ∧ c = 0 ∧ d = 23 ∧ b < 23
        · rw [if_pos h3]
          obtain ⟨e1, e2, e3, e4⟩ := h3
          refine ⟨fun _ => ⟨b1, b2, b3, b4, ?_⟩, fun h => absurd h (by decide)⟩
          have q := hz_bnd hp (show b < 24 by omega)
          have p0 := hp.1
          have p1 := hp.2.1
          subst e1 e2 e3
          unfold hz_sv
          rw [hz_EX1 rfl, hz_EX1 rfl, hz_EXg (show 0 < 23 by omega), hz_EXg e4, hz_EYg (show 0 < 23 by omega), hz_EYg e4]
          have x0 : hz_X bx sx hz_qx 0 = (bx : Int) := rfl
          have y0 : hz_X by' sy hz_qy 0 = (by' : Int) := rfl
          have xb : hz_X bx sx hz_qx b = ((bx + sx * (b / 4) : Nat) : Int) := rfl
          have yb : hz_X by' sy hz_qy b = ((by' + sy * (b % 4) : Nat) : Int) := rfl
          rw [x0, y0, xb, yb]
          have m1 := hz_sqm (x := ((bx + sx * (b / 4) : Nat) : Int) - bx) (y := 63 - (bx : Int)) (by omega) (by omega)
          have m2 := hz_sqm (x := ((by' + sy * (b % 4) : Nat) : Int) - by') (y := 63 - (by' : Int)) (by omega) (by omega)
          have n1 : ((bx : Int) - ((bx + sx * (b / 4) : Nat) : Int)) * ((bx : Int) - ((bx + sx * (b / 4) : Nat) : Int)) = (((bx + sx * (b / 4) : Nat) : Int) - bx) * (((bx + sx * (b / 4) : Nat) : Int) - bx) := by grind
          have n2 : ((by' : Int) - ((by' + sy * (b % 4) : Nat) : Int)) * ((by' : Int) - ((by' + sy * (b % 4) : Nat) : Int)) = (((by' + sy * (b % 4) : Nat) : Int) - by') * (((by' + sy * (b % 4) : Nat) : Int) - by') := by grind
          have n3 : ((bx : Int) - 63) * ((bx : Int) - 63) = (63 - (bx : Int)) * (63 - (bx : Int)) := by grind
          have n4 : ((by' : Int) - 63) * ((by' : Int) - 63) = (63 - (by' : Int)) * (63 - (by' : Int)) := by grind
          rw [n1, n2, n3, n4]
          omega
        · rw [if_neg h3]
          exact ⟨fun h => absurd h (by decide), fun h => absurd h (by decide)⟩
  · rw [if_neg hb]
    exact ⟨fun h => absurd h (by decide), fun h => absurd h (by decide)⟩
theorem hz_f0 : hz_toL (hz_wrap (hz_sgE []) hz_sqE 24) = some [0, 20, 23, 3] := by decide +kernel
theorem hz_f2 : hz_toL (hz_twice (hz_sgE []) 24) = some [0, 20, 23, 3] := by decide +kernel
theorem hz_f4 : hz_toL (hz_merge (hz_sgE []) 24) = some [0, 20, 23, 3] := by decide +kernel
end
section
theorem hz_tree1 {A B C : Int} {P : Prop} (hc : hz_cone A B C) (leaf : ∀ l, hz_kok A B C l → hz_toL (hz_around (hz_sgE l) hz_sqE 24) = some [0, 20, 23, 3] → P) : P := by
  obtain ⟨c1, c2, c3⟩ := hc
  rcases Int.lt_trichotomy ((-1 : Int) * A + (3 : Int) * B + (0 : Int) * C) 0 with h0 | h0 | h0
  · exact leaf [((-1, 3, 0), 0)] ⟨Or.inl ⟨rfl, h0⟩, trivial⟩ (by decide +kernel)
  · exact leaf [((-1, 3, 0), 1)] ⟨Or.inr (Or.inl ⟨rfl, h0⟩), trivial⟩ (by decide +kernel)
  · rcases Int.lt_trichotomy ((-1 : Int) * A + (2 : Int) * B + (0 : Int) * C) 0 with h1 | h1 | h1
    · rcases Int.lt_trichotomy ((-1 : Int) * A + (1 : Int) * B + (1 : Int) * C) 0 with h2 | h2 | h2
      · rcases Int.lt_trichotomy ((-1 : Int) * A + (2 : Int) * B + (1 : Int) * C) 0 with h3 | h3 | h3
        · exact leaf [((-1, 3, 0), 2), ((-1, 2, 0), 0), ((-1, 1, 1), 0), ((-1, 2, 1), 0)] ⟨Or.inr (Or.inr ⟨rfl, h0⟩), ⟨Or.inl ⟨rfl, h1⟩, ⟨Or.inl ⟨rfl, h2⟩, ⟨Or.inl ⟨rfl, h3⟩, trivial⟩⟩⟩⟩ (by decide +kernel)
        · exact leaf [((-1, 3, 0), 2), ((-1, 2, 0), 0), ((-1, 1, 1), 0), ((-1, 2, 1), 1)] ⟨Or.inr (Or.inr ⟨rfl, h0⟩), ⟨Or.inl ⟨rfl, h1⟩, ⟨Or.inl ⟨rfl, h2⟩, ⟨Or.inr (Or.inl ⟨rfl, h3⟩), trivial⟩⟩⟩⟩ (by decide +kernel)
        · rcases Int.lt_trichotomy ((-1 : Int) * A + (1 : Int) * B + (2 : Int) * C) 0 with h4 | h4 | h4
          · exact leaf [((-1, 3, 0), 2), ((-1, 2, 0), 0), ((-1, 1, 1), 0), ((-1, 2, 1), 2), ((-1, 1, 2), 0)] ⟨Or.inr (Or.inr ⟨rfl, h0⟩), ⟨Or.inl ⟨rfl, h1⟩, ⟨Or.inl ⟨rfl, h2⟩, ⟨Or.inr (Or.inr ⟨rfl, h3⟩), ⟨Or.inl ⟨rfl, h4⟩, trivial⟩⟩⟩⟩⟩ (by decide +kernel)
          · exfalso
            omega
          · exfalso
            omega
      · exfalso
        omega
      · exfalso
        omega
    · rcases Int.lt_trichotomy ((-1 : Int) * A + (1 : Int) * B + (1 : Int) * C) 0 with h2 | h2 | h2
      · rcases Int.lt_trichotomy ((-1 : Int) * A + (2 : Int) * B + (1 : Int) * C) 0 with h3 | h3 | h3
        · exfalso
          omega
        · exfalso
          omega
        · rcases Int.lt_trichotomy ((-1 : Int) * A + (1 : Int) * B + (2 : Int) * C) 0 with h4 | h4 | h4
          · exact leaf [((-1, 3, 0), 2), ((-1, 2, 0), 1), ((-1, 1, 1), 0), ((-1, 2, 1), 2), ((-1, 1, 2), 0)] ⟨Or.inr (Or.inr ⟨rfl, h0⟩), ⟨Or.inr (Or.inl ⟨rfl, h1⟩), ⟨Or.inl ⟨rfl, h2⟩, ⟨Or.inr (Or.inr ⟨rfl, h3⟩), ⟨Or.inl ⟨rfl, h4⟩, trivial⟩⟩⟩⟩⟩ (by decide +kernel)
          · exfalso
            omega
          · exfalso
            omega
      · exfalso
        omega
      · exfalso
        omega
    · rcases Int.lt_trichotomy ((-2 : Int) * A + (3 : Int) * B + (0 : Int) * C) 0 with h2 | h2 | h2
      · rcases Int.lt_trichotomy ((-1 : Int) * A + (2 : Int) * B + (1 : Int) * C) 0 with h3 | h3 | h3
        · exfalso
          omega
        · exfalso
          omega
        · rcases Int.lt_trichotomy ((-1 : Int) * A + (1 : Int) * B + (2 : Int) * C) 0 with h4 | h4 | h4
          · exact leaf [((-1, 3, 0), 2), ((-1, 2, 0), 2), ((-2, 3, 0), 0), ((-1, 2, 1), 2), ((-1, 1, 2), 0)] ⟨Or.inr (Or.inr ⟨rfl, h0⟩), ⟨Or.inr (Or.inr ⟨rfl, h1⟩), ⟨Or.inl ⟨rfl, h2⟩, ⟨Or.inr (Or.inr ⟨rfl, h3⟩), ⟨Or.inl ⟨rfl, h4⟩, trivial⟩⟩⟩⟩⟩ (by decide +kernel)
          · exfalso
            omega
          · exfalso
            omega
      · rcases Int.lt_trichotomy ((-1 : Int) * A + (2 : Int) * B + (1 : Int) * C) 0 with h3 | h3 | h3
        · exfalso
          omega
        · exfalso
          omega
        · rcases Int.lt_trichotomy ((-1 : Int) * A + (1 : Int) * B + (2 : Int) * C) 0 with h4 | h4 | h4
          · exact leaf [((-1, 3, 0), 2), ((-1, 2, 0), 2), ((-2, 3, 0), 1), ((-1, 2, 1), 2), ((-1, 1, 2), 0)] ⟨Or.inr (Or.inr ⟨rfl, h0⟩), ⟨Or.inr (Or.inr ⟨rfl, h1⟩), ⟨Or.inr (Or.inl ⟨rfl, h2⟩), ⟨Or.inr (Or.inr ⟨rfl, h3⟩), ⟨Or.inl ⟨rfl, h4⟩, trivial⟩⟩⟩⟩⟩ (by decide +kernel)
          · exfalso
            omega
          · exfalso
            omega
      · rcases Int.lt_trichotomy ((-3 : Int) * A + (3 : Int) * B + (0 : Int) * C) 0 with h3 | h3 | h3
        · rcases Int.lt_trichotomy ((-1 : Int) * A + (1 : Int) * B + (1 : Int) * C) 0 with h4 | h4 | h4
          · rcases Int.lt_trichotomy ((-1 : Int) * A + (2 : Int) * B + (1 : Int) * C) 0 with h5 | h5 | h5
            · exfalso
              omega
            · exfalso
              omega
            · rcases Int.lt_trichotomy ((-1 : Int) * A + (1 : Int) * B + (2 : Int) * C) 0 with h6 | h6 | h6
              · exact leaf [((-1, 3, 0), 2), ((-1, 2, 0), 2), ((-2, 3, 0), 2), ((-3, 3, 0), 0), ((-1, 1, 1), 0), ((-1, 2, 1), 2), ((-1, 1, 2), 0)] ⟨Or.inr (Or.inr ⟨rfl, h0⟩), ⟨Or.inr (Or.inr ⟨rfl, h1⟩), ⟨Or.inr (Or.inr ⟨rfl, h2⟩), ⟨Or.inl ⟨rfl, h3⟩, ⟨Or.inl ⟨rfl, h4⟩, ⟨Or.inr (Or.inr ⟨rfl, h5⟩), ⟨Or.inl ⟨rfl, h6⟩, trivial⟩⟩⟩⟩⟩⟩⟩ (by decide +kernel)
              · exact leaf [((-1, 3, 0), 2), ((-1, 2, 0), 2), ((-2, 3, 0), 2), ((-3, 3, 0), 0), ((-1, 1, 1), 0), ((-1, 2, 1), 2), ((-1, 1, 2), 1)] ⟨Or.inr (Or.inr ⟨rfl, h0⟩), ⟨Or.inr (Or.inr ⟨rfl, h1⟩), ⟨Or.inr (Or.inr ⟨rfl, h2⟩), ⟨Or.inl ⟨rfl, h3⟩, ⟨Or.inl ⟨rfl, h4⟩, ⟨Or.inr (Or.inr ⟨rfl, h5⟩), ⟨Or.inr (Or.inl ⟨rfl, h6⟩), trivial⟩⟩⟩⟩⟩⟩⟩ (by decide +kernel)
              · exact leaf [((-1, 3, 0), 2), ((-1, 2, 0), 2), ((-2, 3, 0), 2), ((-3, 3, 0), 0), ((-1, 1, 1), 0), ((-1, 2, 1), 2), ((-1, 1, 2), 2)] ⟨Or.inr (Or.inr ⟨rfl, h0⟩), ⟨Or.inr (Or.inr ⟨rfl, h1⟩), ⟨Or.inr (Or.inr ⟨rfl, h2⟩), ⟨Or.inl ⟨rfl, h3⟩, ⟨Or.inl ⟨rfl, h4⟩, ⟨Or.inr (Or.inr ⟨rfl, h5⟩), ⟨Or.inr (Or.inr ⟨rfl, h6⟩), trivial⟩⟩⟩⟩⟩⟩⟩ (by decide +kernel)
          · rcases Int.lt_trichotomy ((-1 : Int) * A + (2 : Int) * B + (1 : Int) * C) 0 with h5 | h5 | h5
            · exfalso
              omega
            · exfalso
              omega
            · rcases Int.lt_trichotomy ((-1 : Int) * A + (1 : Int) * B + (2 : Int) * C) 0 with h6 | h6 | h6
              · exfalso
                omega
              · exfalso
                omega
              · exact leaf [((-1, 3, 0), 2), ((-1, 2, 0), 2), ((-2, 3, 0), 2), ((-3, 3, 0), 0), ((-1, 1, 1), 1), ((-1, 2, 1), 2), ((-1, 1, 2), 2)] ⟨Or.inr (Or.inr ⟨rfl, h0⟩), ⟨Or.inr (Or.inr ⟨rfl, h1⟩), ⟨Or.inr (Or.inr ⟨rfl, h2⟩), ⟨Or.inl ⟨rfl, h3⟩, ⟨Or.inr (Or.inl ⟨rfl, h4⟩), ⟨Or.inr (Or.inr ⟨rfl, h5⟩), ⟨Or.inr (Or.inr ⟨rfl, h6⟩), trivial⟩⟩⟩⟩⟩⟩⟩ (by decide +kernel)
          · rcases Int.lt_trichotomy ((-1 : Int) * A + (2 : Int) * B + (1 : Int) * C) 0 with h5 | h5 | h5
            · exfalso
              omega
            · exfalso
              omega
            · rcases Int.lt_trichotomy ((-1 : Int) * A + (1 : Int) * B + (2 : Int) * C) 0 with h6 | h6 | h6
              · exfalso
                omega
              · exfalso
                omega
              · exact leaf [((-1, 3, 0), 2), ((-1, 2, 0), 2), ((-2, 3, 0), 2), ((-3, 3, 0), 0), ((-1, 1, 1), 2), ((-1, 2, 1), 2), ((-1, 1, 2), 2)] ⟨Or.inr (Or.inr ⟨rfl, h0⟩), ⟨Or.inr (Or.inr ⟨rfl, h1⟩), ⟨Or.inr (Or.inr ⟨rfl, h2⟩), ⟨Or.inl ⟨rfl, h3⟩, ⟨Or.inr (Or.inr ⟨rfl, h4⟩), ⟨Or.inr (Or.inr ⟨rfl, h5⟩), ⟨Or.inr (Or.inr ⟨rfl, h6⟩), trivial⟩⟩⟩⟩⟩⟩⟩ (by decide +kernel)
        · rcases Int.lt_trichotomy ((-1 : Int) * A + (1 : Int) * B + (1 : Int) * C) 0 with h4 | h4 | h4
          · exfalso
            omega
          · exfalso
            omega
          · rcases Int.lt_trichotomy ((-1 : Int) * A + (2 : Int) * B + (1 : Int) * C) 0 with h5 | h5 | h5
            · exfalso
              omega
            · exfalso
              omega
            · rcases Int.lt_trichotomy ((-1 : Int) * A + (1 : Int) * B + (2 : Int) * C) 0 with h6 | h6 | h6
              · exfalso
                omega
              · exfalso
                omega
              · exact leaf [((-1, 3, 0), 2), ((-1, 2, 0), 2), ((-2, 3, 0), 2), ((-3, 3, 0), 1), ((-1, 1, 1), 2), ((-1, 2, 1), 2), ((-1, 1, 2), 2)] ⟨Or.inr (Or.inr ⟨rfl, h0⟩), ⟨Or.inr (Or.inr ⟨rfl, h1⟩), ⟨Or.inr (Or.inr ⟨rfl, h2⟩), ⟨Or.inr (Or.inl ⟨rfl, h3⟩), ⟨Or.inr (Or.inr ⟨rfl, h4⟩), ⟨Or.inr (Or.inr ⟨rfl, h5⟩), ⟨Or.inr (Or.inr ⟨rfl, h6⟩), trivial⟩⟩⟩⟩⟩⟩⟩ (by decide +kernel)
        · rcases Int.lt_trichotomy ((-2 : Int) * A + (2 : Int) * B + (0 : Int) * C) 0 with h4 | h4 | h4
          · exfalso
            omega
          · exfalso
            omega
          · rcases Int.lt_trichotomy ((-1 : Int) * A + (1 : Int) * B + (0 : Int) * C) 0 with h5 | h5 | h5
            · exfalso
              omega
            · exfalso
              omega
            · rcases Int.lt_trichotomy ((-4 : Int) * A + (3 : Int) * B + (0 : Int) * C) 0 with h6 | h6 | h6
              · rcases Int.lt_trichotomy ((-1 : Int) * A + (1 : Int) * B + (1 : Int) * C) 0 with h7 | h7 | h7
                · exfalso
                  omega
                · exfalso
                  omega
                · rcases Int.lt_trichotomy ((-1 : Int) * A + (2 : Int) * B + (1 : Int) * C) 0 with h8 | h8 | h8
                  · exfalso
                    omega
                  · exfalso
                    omega
                  · rcases Int.lt_trichotomy ((-1 : Int) * A + (1 : Int) * B + (2 : Int) * C) 0 with h9 | h9 | h9
                    · exfalso
                      omega
                    · exfalso
                      omega
                    · exact leaf [((-1, 3, 0), 2), ((-1, 2, 0), 2), ((-2, 3, 0), 2), ((-3, 3, 0), 2), ((-2, 2, 0), 2), ((-1, 1, 0), 2), ((-4, 3, 0), 0), ((-1, 1, 1), 2), ((-1, 2, 1), 2), ((-1, 1, 2), 2)] ⟨Or.inr (Or.inr ⟨rfl, h0⟩), ⟨Or.inr (Or.inr ⟨rfl, h1⟩), ⟨Or.inr (Or.inr ⟨rfl, h2⟩), ⟨Or.inr (Or.inr ⟨rfl, h3⟩), ⟨Or.inr (Or.inr ⟨rfl, h4⟩), ⟨Or.inr (Or.inr ⟨rfl, h5⟩), ⟨Or.inl ⟨rfl, h6⟩, ⟨Or.inr (Or.inr ⟨rfl, h7⟩), ⟨Or.inr (Or.inr ⟨rfl, h8⟩), ⟨Or.inr (Or.inr ⟨rfl, h9⟩), trivial⟩⟩⟩⟩⟩⟩⟩⟩⟩⟩ (by decide +kernel)
              · rcases Int.lt_trichotomy ((-1 : Int) * A + (1 : Int) * B + (1 : Int) * C) 0 with h7 | h7 | h7
                · exfalso
                  omega
                · exfalso
                  omega
                · rcases Int.lt_trichotomy ((-1 : Int) * A + (2 : Int) * B + (1 : Int) * C) 0 with h8 | h8 | h8
                  · exfalso
                    omega
                  · exfalso
                    omega
                  · rcases Int.lt_trichotomy ((-1 : Int) * A + (1 : Int) * B + (2 : Int) * C) 0 with h9 | h9 | h9
                    · exfalso
                      omega
                    · exfalso
                      omega
                    · exact leaf [((-1, 3, 0), 2), ((-1, 2, 0), 2), ((-2, 3, 0), 2), ((-3, 3, 0), 2), ((-2, 2, 0), 2), ((-1, 1, 0), 2), ((-4, 3, 0), 1), ((-1, 1, 1), 2), ((-1, 2, 1), 2), ((-1, 1, 2), 2)] ⟨Or.inr (Or.inr ⟨rfl, h0⟩), ⟨Or.inr (Or.inr ⟨rfl, h1⟩), ⟨Or.inr (Or.inr ⟨rfl, h2⟩), ⟨Or.inr (Or.inr ⟨rfl, h3⟩), ⟨Or.inr (Or.inr ⟨rfl, h4⟩), ⟨Or.inr (Or.inr ⟨rfl, h5⟩), ⟨Or.inr (Or.inl ⟨rfl, h6⟩), ⟨Or.inr (Or.inr ⟨rfl, h7⟩), ⟨Or.inr (Or.inr ⟨rfl, h8⟩), ⟨Or.inr (Or.inr ⟨rfl, h9⟩), trivial⟩⟩⟩⟩⟩⟩⟩⟩⟩⟩ (by decide +kernel)
              · rcases Int.lt_trichotomy ((-3 : Int) * A + (2 : Int) * B + (0 : Int) * C) 0 with h7 | h7 | h7
                · rcases Int.lt_trichotomy ((-3 : Int) * A + (2 : Int) * B + (1 : Int) * C) 0 with h8 | h8 | h8
                  · rcases Int.lt_trichotomy ((-1 : Int) * A + (1 : Int) * B + (1 : Int) * C) 0 with h9 | h9 | h9
                    · exfalso
                      omega
                    · exfalso
                      omega
                    · rcases Int.lt_trichotomy ((-1 : Int) * A + (2 : Int) * B + (1 : Int) * C) 0 with h10 | h10 | h10
                      · exfalso
                        omega
                      · exfalso
                        omega
                      · rcases Int.lt_trichotomy ((-1 : Int) * A + (1 : Int) * B + (2 : Int) * C) 0 with h11 | h11 | h11
                        · exfalso
                          omega
                        · exfalso
                          omega
                        · exact leaf [((-1, 3, 0), 2), ((-1, 2, 0), 2), ((-2, 3, 0), 2), ((-3, 3, 0), 2), ((-2, 2, 0), 2), ((-1, 1, 0), 2), ((-4, 3, 0), 2), ((-3, 2, 0), 0), ((-3, 2, 1), 0), ((-1, 1, 1), 2), ((-1, 2, 1), 2), ((-1, 1, 2), 2)] ⟨Or.inr (Or.inr ⟨rfl, h0⟩), ⟨Or.inr (Or.inr ⟨rfl, h1⟩), ⟨Or.inr (Or.inr ⟨rfl, h2⟩), ⟨Or.inr (Or.inr ⟨rfl, h3⟩), ⟨Or.inr (Or.inr ⟨rfl, h4⟩), ⟨Or.inr (Or.inr ⟨rfl, h5⟩), ⟨Or.inr (Or.inr ⟨rfl, h6⟩), ⟨Or.inl ⟨rfl, h7⟩, ⟨Or.inl ⟨rfl, h8⟩, ⟨Or.inr (Or.inr ⟨rfl, h9⟩), ⟨Or.inr (Or.inr ⟨rfl, h10⟩), ⟨Or.inr (Or.inr ⟨rfl, h11⟩), trivial⟩⟩⟩⟩⟩⟩⟩⟩⟩⟩⟩⟩ (by decide +kernel)
                  · rcases Int.lt_trichotomy ((-1 : Int) * A + (1 : Int) * B + (1 : Int) * C) 0 with h9 | h9 | h9
                    · exfalso
                      omega
                    · exfalso
                      omega
                    · rcases Int.lt_trichotomy ((-1 : Int) * A + (2 : Int) * B + (1 : Int) * C) 0 with h10 | h10 | h10
                      · exfalso
                        omega
                      · exfalso
                        omega
                      · rcases Int.lt_trichotomy ((-1 : Int) * A + (1 : Int) * B + (2 : Int) * C) 0 with h11 | h11 | h11
                        · exfalso
                          omega
                        · exfalso
                          omega
                        · exact leaf [((-1, 3, 0), 2), ((-1, 2, 0), 2), ((-2, 3, 0), 2), ((-3, 3, 0), 2), ((-2, 2, 0), 2), ((-1, 1, 0), 2), ((-4, 3, 0), 2), ((-3, 2, 0), 0), ((-3, 2, 1), 1), ((-1, 1, 1), 2), ((-1, 2, 1), 2), ((-1, 1, 2), 2)] ⟨Or.inr (Or.inr ⟨rfl, h0⟩), ⟨Or.inr (Or.inr ⟨rfl, h1⟩), ⟨Or.inr (Or.inr ⟨rfl, h2⟩), ⟨Or.inr (Or.inr ⟨rfl, h3⟩), ⟨Or.inr (Or.inr ⟨rfl, h4⟩), ⟨Or.inr (Or.inr ⟨rfl, h5⟩), ⟨Or.inr (Or.inr ⟨rfl, h6⟩), ⟨Or.inl ⟨rfl, h7⟩, ⟨Or.inr (Or.inl ⟨rfl, h8⟩), ⟨Or.inr (Or.inr ⟨rfl, h9⟩), ⟨Or.inr (Or.inr ⟨rfl, h10⟩), ⟨Or.inr (Or.inr ⟨rfl, h11⟩), trivial⟩⟩⟩⟩⟩⟩⟩⟩⟩⟩⟩⟩ (by decide +kernel)
                  · rcases Int.lt_trichotomy ((-2 : Int) * A + (1 : Int) * B + (2 : Int) * C) 0 with h9 | h9 | h9
                    · rcases Int.lt_trichotomy ((-1 : Int) * A + (1 : Int) * B + (1 : Int) * C) 0 with h10 | h10 | h10
                      · exfalso
                        omega
                      · exfalso
                        omega
                      · rcases Int.lt_trichotomy ((-1 : Int) * A + (2 : Int) * B + (1 : Int) * C) 0 with h11 | h11 | h11
                        · exfalso
                          omega
                        · exfalso
                          omega
                        · rcases Int.lt_trichotomy ((-1 : Int) * A + (1 : Int) * B + (2 : Int) * C) 0 with h12 | h12 | h12
                          · exfalso
                            omega
                          · exfalso
                            omega
                          · exact leaf [((-1, 3, 0), 2), ((-1, 2, 0), 2), ((-2, 3, 0), 2), ((-3, 3, 0), 2), ((-2, 2, 0), 2), ((-1, 1, 0), 2), ((-4, 3, 0), 2), ((-3, 2, 0), 0), ((-3, 2, 1), 2), ((-2, 1, 2), 0), ((-1, 1, 1), 2), ((-1, 2, 1), 2), ((-1, 1, 2), 2)] ⟨Or.inr (Or.inr ⟨rfl, h0⟩), ⟨Or.inr (Or.inr ⟨rfl, h1⟩), ⟨Or.inr (Or.inr ⟨rfl, h2⟩), ⟨Or.inr (Or.inr ⟨rfl, h3⟩), ⟨Or.inr (Or.inr ⟨rfl, h4⟩), ⟨Or.inr (Or.inr ⟨rfl, h5⟩), ⟨Or.inr (Or.inr ⟨rfl, h6⟩), ⟨Or.inl ⟨rfl, h7⟩, ⟨Or.inr (Or.inr ⟨rfl, h8⟩), ⟨Or.inl ⟨rfl, h9⟩, ⟨Or.inr (Or.inr ⟨rfl, h10⟩), ⟨Or.inr (Or.inr ⟨rfl, h11⟩), ⟨Or.inr (Or.inr ⟨rfl, h12⟩), trivial⟩⟩⟩⟩⟩⟩⟩⟩⟩⟩⟩⟩⟩ (by decide +kernel)
                    · rcases Int.lt_trichotomy ((-1 : Int) * A + (1 : Int) * B + (1 : Int) * C) 0 with h10 | h10 | h10
                      · exfalso
                        omega
                      · exfalso
                        omega
                      · rcases Int.lt_trichotomy ((-1 : Int) * A + (2 : Int) * B + (1 : Int) * C) 0 with h11 | h11 | h11
                        · exfalso
                          omega
                        · exfalso
                          omega
                        · rcases Int.lt_trichotomy ((-1 : Int) * A + (1 : Int) * B + (2 : Int) * C) 0 with h12 | h12 | h12
                          · exfalso
                            omega
                          · exfalso
                            omega
                          · exact leaf [((-1, 3, 0), 2), ((-1, 2, 0), 2), ((-2, 3, 0), 2), ((-3, 3, 0), 2), ((-2, 2, 0), 2), ((-1, 1, 0), 2), ((-4, 3, 0), 2), ((-3, 2, 0), 0), ((-3, 2, 1), 2), ((-2, 1, 2), 1), ((-1, 1, 1), 2), ((-1, 2, 1), 2), ((-1, 1, 2), 2)] ⟨Or.inr (Or.inr ⟨rfl, h0⟩), ⟨Or.inr (Or.inr ⟨rfl, h1⟩), ⟨Or.inr (Or.inr ⟨rfl, h2⟩), ⟨Or.inr (Or.inr ⟨rfl, h3⟩), ⟨Or.inr (Or.inr ⟨rfl, h4⟩), ⟨Or.inr (Or.inr ⟨rfl, h5⟩), ⟨Or.inr (Or.inr ⟨rfl, h6⟩), ⟨Or.inl ⟨rfl, h7⟩, ⟨Or.inr (Or.inr ⟨rfl, h8⟩), ⟨Or.inr (Or.inl ⟨rfl, h9⟩), ⟨Or.inr (Or.inr ⟨rfl, h10⟩), ⟨Or.inr (Or.inr ⟨rfl, h11⟩), ⟨Or.inr (Or.inr ⟨rfl, h12⟩), trivial⟩⟩⟩⟩⟩⟩⟩⟩⟩⟩⟩⟩⟩ (by decide +kernel)
                    · rcases Int.lt_trichotomy ((-1 : Int) * A + (1 : Int) * B + (1 : Int) * C) 0 with h10 | h10 | h10
                      · exfalso
                        omega
                      · exfalso
                        omega
                      · rcases Int.lt_trichotomy ((-1 : Int) * A + (2 : Int) * B + (1 : Int) * C) 0 with h11 | h11 | h11
                        · exfalso
                          omega
                        · exfalso
                          omega
                        · rcases Int.lt_trichotomy ((-1 : Int) * A + (1 : Int) * B + (2 : Int) * C) 0 with h12 | h12 | h12
                          · exfalso
                            omega
                          · exfalso
                            omega
                          · exact leaf [((-1, 3, 0), 2), ((-1, 2, 0), 2), ((-2, 3, 0), 2), ((-3, 3, 0), 2), ((-2, 2, 0), 2), ((-1, 1, 0), 2), ((-4, 3, 0), 2), ((-3, 2, 0), 0), ((-3, 2, 1), 2), ((-2, 1, 2), 2), ((-1, 1, 1), 2), ((-1, 2, 1), 2), ((-1, 1, 2), 2)] ⟨Or.inr (Or.inr ⟨rfl, h0⟩), ⟨Or.inr (Or.inr ⟨rfl, h1⟩), ⟨Or.inr (Or.inr ⟨rfl, h2⟩), ⟨Or.inr (Or.inr ⟨rfl, h3⟩), ⟨Or.inr (Or.inr ⟨rfl, h4⟩), ⟨Or.inr (Or.inr ⟨rfl, h5⟩), ⟨Or.inr (Or.inr ⟨rfl, h6⟩), ⟨Or.inl ⟨rfl, h7⟩, ⟨Or.inr (Or.inr ⟨rfl, h8⟩), ⟨Or.inr (Or.inr ⟨rfl, h9⟩), ⟨Or.inr (Or.inr ⟨rfl, h10⟩), ⟨Or.inr (Or.inr ⟨rfl, h11⟩), ⟨Or.inr (Or.inr ⟨rfl, h12⟩), trivial⟩⟩⟩⟩⟩⟩⟩⟩⟩⟩⟩⟩⟩ (by decide +kernel)
                · rcases Int.lt_trichotomy ((-3 : Int) * A + (2 : Int) * B + (1 : Int) * C) 0 with h8 | h8 | h8
                  · exfalso
                    omega
                  · exfalso
                    omega
                  · rcases Int.lt_trichotomy ((-2 : Int) * A + (1 : Int) * B + (2 : Int) * C) 0 with h9 | h9 | h9
                    · rcases Int.lt_trichotomy ((-1 : Int) * A + (1 : Int) * B + (1 : Int) * C) 0 with h10 | h10 | h10
                      · exfalso
                        omega
                      · exfalso
                        omega
                      · rcases Int.lt_trichotomy ((-1 : Int) * A + (2 : Int) * B + (1 : Int) * C) 0 with h11 | h11 | h11
                        · exfalso
                          omega
                        · exfalso
                          omega
                        · rcases Int.lt_trichotomy ((-1 : Int) * A + (1 : Int) * B + (2 : Int) * C) 0 with h12 | h12 | h12
                          · exfalso
                            omega
                          · exfalso
                            omega
                          · exact leaf [((-1, 3, 0), 2), ((-1, 2, 0), 2), ((-2, 3, 0), 2), ((-3, 3, 0), 2), ((-2, 2, 0), 2), ((-1, 1, 0), 2), ((-4, 3, 0), 2), ((-3, 2, 0), 1), ((-3, 2, 1), 2), ((-2, 1, 2), 0), ((-1, 1, 1), 2), ((-1, 2, 1), 2), ((-1, 1, 2), 2)] ⟨Or.inr (Or.inr ⟨rfl, h0⟩), ⟨Or.inr (Or.inr ⟨rfl, h1⟩), ⟨Or.inr (Or.inr ⟨rfl, h2⟩), ⟨Or.inr (Or.inr ⟨rfl, h3⟩), ⟨Or.inr (Or.inr ⟨rfl, h4⟩), ⟨Or.inr (Or.inr ⟨rfl, h5⟩), ⟨Or.inr (Or.inr ⟨rfl, h6⟩), ⟨Or.inr (Or.inl ⟨rfl, h7⟩), ⟨Or.inr (Or.inr ⟨rfl, h8⟩), ⟨Or.inl ⟨rfl, h9⟩, ⟨Or.inr (Or.inr ⟨rfl, h10⟩), ⟨Or.inr (Or.inr ⟨rfl, h11⟩), ⟨Or.inr (Or.inr ⟨rfl, h12⟩), trivial⟩⟩⟩⟩⟩⟩⟩⟩⟩⟩⟩⟩⟩ (by decide +kernel)
                    · rcases Int.lt_trichotomy ((-1 : Int) * A + (1 : Int) * B + (1 : Int) * C) 0 with h10 | h10 | h10
                      · exfalso
                        omega
                      · exfalso
                        omega
                      · rcases Int.lt_trichotomy ((-1 : Int) * A + (2 : Int) * B + (1 : Int) * C) 0 with h11 | h11 | h11
                        · exfalso
                          omega
                        · exfalso
                          omega
                        · rcases Int.lt_trichotomy ((-1 : Int) * A + (1 : Int) * B + (2 : Int) * C) 0 with h12 | h12 | h12
                          · exfalso
                            omega
                          · exfalso
                            omega
                          · exact leaf [((-1, 3, 0), 2), ((-1, 2, 0), 2), ((-2, 3, 0), 2), ((-3, 3, 0), 2), ((-2, 2, 0), 2), ((-1, 1, 0), 2), ((-4, 3, 0), 2), ((-3, 2, 0), 1), ((-3, 2, 1), 2), ((-2, 1, 2), 1), ((-1, 1, 1), 2), ((-1, 2, 1), 2), ((-1, 1, 2), 2)] ⟨Or.inr (Or.inr ⟨rfl, h0⟩), ⟨Or.inr (Or.inr ⟨rfl, h1⟩), ⟨Or.inr (Or.inr ⟨rfl, h2⟩), ⟨Or.inr (Or.inr ⟨rfl, h3⟩), ⟨Or.inr (Or.inr ⟨rfl, h4⟩), ⟨Or.inr (Or.inr ⟨rfl, h5⟩), ⟨Or.inr (Or.inr ⟨rfl, h6⟩), ⟨Or.inr (Or.inl ⟨rfl, h7⟩), ⟨Or.inr (Or.inr ⟨rfl, h8⟩), ⟨Or.inr (Or.inl ⟨rfl, h9⟩), ⟨Or.inr (Or.inr ⟨rfl, h10⟩), ⟨Or.inr (Or.inr ⟨rfl, h11⟩), ⟨Or.inr (Or.inr ⟨rfl, h12⟩), trivial⟩⟩⟩⟩⟩⟩⟩⟩⟩⟩⟩⟩⟩ (by decide +kernel)
                    · rcases Int.lt_trichotomy ((-1 : Int) * A + (1 : Int) * B + (1 : Int) * C) 0 with h10 | h10 | h10
                      · exfalso
                        omega
                      · exfalso
                        omega
                      · rcases Int.lt_trichotomy ((-1 : Int) * A + (2 : Int) * B + (1 : Int) * C) 0 with h11 | h11 | h11
                        · exfalso
                          omega
                        · exfalso
                          omega
                        · rcases Int.lt_trichotomy ((-1 : Int) * A + (1 : Int) * B + (2 : Int) * C) 0 with h12 | h12 | h12
                          · exfalso
                            omega
                          · exfalso
                            omega
                          · exact leaf [((-1, 3, 0), 2), ((-1, 2, 0), 2), ((-2, 3, 0), 2), ((-3, 3, 0), 2), ((-2, 2, 0), 2), ((-1, 1, 0), 2), ((-4, 3, 0), 2), ((-3, 2, 0), 1), ((-3, 2, 1), 2), ((-2, 1, 2), 2), ((-1, 1, 1), 2), ((-1, 2, 1), 2), ((-1, 1, 2), 2)] ⟨Or.inr (Or.inr ⟨rfl, h0⟩), ⟨Or.inr (Or.inr ⟨rfl, h1⟩), ⟨Or.inr (Or.inr ⟨rfl, h2⟩), ⟨Or.inr (Or.inr ⟨rfl, h3⟩), ⟨Or.inr (Or.inr ⟨rfl, h4⟩), ⟨Or.inr (Or.inr ⟨rfl, h5⟩), ⟨Or.inr (Or.inr ⟨rfl, h6⟩), ⟨Or.inr (Or.inl ⟨rfl, h7⟩), ⟨Or.inr (Or.inr ⟨rfl, h8⟩), ⟨Or.inr (Or.inr ⟨rfl, h9⟩), ⟨Or.inr (Or.inr ⟨rfl, h10⟩), ⟨Or.inr (Or.inr ⟨rfl, h11⟩), ⟨Or.inr (Or.inr ⟨rfl, h12⟩), trivial⟩⟩⟩⟩⟩⟩⟩⟩⟩⟩⟩⟩⟩ (by decide +kernel)
                · rcases Int.lt_trichotomy ((-4 : Int) * A + (2 : Int) * B + (0 : Int) * C) 0 with h8 | h8 | h8
                  · rcases Int.lt_trichotomy ((1 : Int) * A + (-1 : Int) * B + (1 : Int) * C) 0 with h9 | h9 | h9
                    · rcases Int.lt_trichotomy ((-3 : Int) * A + (2 : Int) * B + (1 : Int) * C) 0 with h10 | h10 | h10
                      · exfalso
                        omega
                      · exfalso
                        omega
                      · rcases Int.lt_trichotomy ((-2 : Int) * A + (1 : Int) * B + (2 : Int) * C) 0 with h11 | h11 | h11
                        · rcases Int.lt_trichotomy ((-1 : Int) * A + (1 : Int) * B + (1 : Int) * C) 0 with h12 | h12 | h12
                          · exfalso
                            omega
                          · exfalso
                            omega
                          · rcases Int.lt_trichotomy ((-1 : Int) * A + (2 : Int) * B + (1 : Int) * C) 0 with h13 | h13 | h13
                            · exfalso
                              omega
                            · exfalso
                              omega
                            · rcases Int.lt_trichotomy ((-1 : Int) * A + (1 : Int) * B + (2 : Int) * C) 0 with h14 | h14 | h14
                              · exfalso
                                omega
                              · exfalso
                                omega
                              · exact leaf [((-1, 3, 0), 2), ((-1, 2, 0), 2), ((-2, 3, 0), 2), ((-3, 3, 0), 2), ((-2, 2, 0), 2), ((-1, 1, 0), 2), ((-4, 3, 0), 2), ((-3, 2, 0), 2), ((-4, 2, 0), 0), ((1, -1, 1), 0), ((-3, 2, 1), 2), ((-2, 1, 2), 0), ((-1, 1, 1), 2), ((-1, 2, 1), 2), ((-1, 1, 2), 2)] ⟨Or.inr (Or.inr ⟨rfl, h0⟩), ⟨Or.inr (Or.inr ⟨rfl, h1⟩), ⟨Or.inr (Or.inr ⟨rfl, h2⟩), ⟨Or.inr (Or.inr ⟨rfl, h3⟩), ⟨Or.inr (Or.inr ⟨rfl, h4⟩), ⟨Or.inr (Or.inr ⟨rfl, h5⟩), ⟨Or.inr (Or.inr ⟨rfl, h6⟩), ⟨Or.inr (Or.inr ⟨rfl, h7⟩), ⟨Or.inl ⟨rfl, h8⟩, ⟨Or.inl ⟨rfl, h9⟩, ⟨Or.inr (Or.inr ⟨rfl, h10⟩), ⟨Or.inl ⟨rfl, h11⟩, ⟨Or.inr (Or.inr ⟨rfl, h12⟩), ⟨Or.inr (Or.inr ⟨rfl, h13⟩), ⟨Or.inr (Or.inr ⟨rfl, h14⟩), trivial⟩⟩⟩⟩⟩⟩⟩⟩⟩⟩⟩⟩⟩⟩⟩ (by decide +kernel)
                        · rcases Int.lt_trichotomy ((-1 : Int) * A + (1 : Int) * B + (1 : Int) * C) 0 with h12 | h12 | h12
                          · exfalso
                            omega
                          · exfalso
                            omega
                          · rcases Int.lt_trichotomy ((-1 : Int) * A + (2 : Int) * B + (1 : Int) * C) 0 with h13 | h13 | h13
                            · exfalso
                              omega
                            · exfalso
                              omega
                            · rcases Int.lt_trichotomy ((-1 : Int) * A + (1 : Int) * B + (2 : Int) * C) 0 with h14 | h14 | h14
                              · exfalso
                                omega
                              · exfalso
                                omega
                              · exact leaf [((-1, 3, 0), 2), ((-1, 2, 0), 2), ((-2, 3, 0), 2), ((-3, 3, 0), 2), ((-2, 2, 0), 2), ((-1, 1, 0), 2), ((-4, 3, 0), 2), ((-3, 2, 0), 2), ((-4, 2, 0), 0), ((1, -1, 1), 0), ((-3, 2, 1), 2), ((-2, 1, 2), 1), ((-1, 1, 1), 2), ((-1, 2, 1), 2), ((-1, 1, 2), 2)] ⟨Or.inr (Or.inr ⟨rfl, h0⟩), ⟨Or.inr (Or.inr ⟨rfl, h1⟩), ⟨Or.inr (Or.inr ⟨rfl, h2⟩), ⟨Or.inr (Or.inr ⟨rfl, h3⟩), ⟨Or.inr (Or.inr ⟨rfl, h4⟩), ⟨Or.inr (Or.inr ⟨rfl, h5⟩), ⟨Or.inr (Or.inr ⟨rfl, h6⟩), ⟨Or.inr (Or.inr ⟨rfl, h7⟩), ⟨Or.inl ⟨rfl, h8⟩, ⟨Or.inl ⟨rfl, h9⟩, ⟨Or.inr (Or.inr ⟨rfl, h10⟩), ⟨Or.inr (Or.inl ⟨rfl, h11⟩), ⟨Or.inr (Or.inr ⟨rfl, h12⟩), ⟨Or.inr (Or.inr ⟨rfl, h13⟩), ⟨Or.inr (Or.inr ⟨rfl, h14⟩), trivial⟩⟩⟩⟩⟩⟩⟩⟩⟩⟩⟩⟩⟩⟩⟩ (by decide +kernel)
                        · rcases Int.lt_trichotomy ((-1 : Int) * A + (1 : Int) * B + (1 : Int) * C) 0 with h12 | h12 | h12
                          · exfalso
                            omega
                          · exfalso
                            omega
                          · rcases Int.lt_trichotomy ((-1 : Int) * A + (2 : Int) * B + (1 : Int) * C) 0 with h13 | h13 | h13
                            · exfalso
                              omega
                            · exfalso
                              omega
                            · rcases Int.lt_trichotomy ((-1 : Int) * A + (1 : Int) * B + (2 : Int) * C) 0 with h14 | h14 | h14
                              · exfalso
                                omega
                              · exfalso
                                omega
                              · exact leaf [((-1, 3, 0), 2), ((-1, 2, 0), 2), ((-2, 3, 0), 2), ((-3, 3, 0), 2), ((-2, 2, 0), 2), ((-1, 1, 0), 2), ((-4, 3, 0), 2), ((-3, 2, 0), 2), ((-4, 2, 0), 0), ((1, -1, 1), 0), ((-3, 2, 1), 2), ((-2, 1, 2), 2), ((-1, 1, 1), 2), ((-1, 2, 1), 2), ((-1, 1, 2), 2)] ⟨Or.inr (Or.inr ⟨rfl, h0⟩), ⟨Or.inr (Or.inr ⟨rfl, h1⟩), ⟨Or.inr (Or.inr ⟨rfl, h2⟩), ⟨Or.inr (Or.inr ⟨rfl, h3⟩), ⟨Or.inr (Or.inr ⟨rfl, h4⟩), ⟨Or.inr (Or.inr ⟨rfl, h5⟩), ⟨Or.inr (Or.inr ⟨rfl, h6⟩), ⟨Or.inr (Or.inr ⟨rfl, h7⟩), ⟨Or.inl ⟨rfl, h8⟩, ⟨Or.inl ⟨rfl, h9⟩, ⟨Or.inr (Or.inr ⟨rfl, h10⟩), ⟨Or.inr (Or.inr ⟨rfl, h11⟩), ⟨Or.inr (Or.inr ⟨rfl, h12⟩), ⟨Or.inr (Or.inr ⟨rfl, h13⟩), ⟨Or.inr (Or.inr ⟨rfl, h14⟩), trivial⟩⟩⟩⟩⟩⟩⟩⟩⟩⟩⟩⟩⟩⟩⟩ (by decide +kernel)
                    · exfalso
                      omega
                    · exfalso
                      omega
                  · rcases Int.lt_trichotomy ((1 : Int) * A + (-1 : Int) * B + (1 : Int) * C) 0 with h9 | h9 | h9
                    · rcases Int.lt_trichotomy ((-3 : Int) * A + (2 : Int) * B + (1 : Int) * C) 0 with h10 | h10 | h10
                      · exfalso
                        omega
                      · exfalso
                        omega
                      · rcases Int.lt_trichotomy ((-2 : Int) * A + (1 : Int) * B + (2 : Int) * C) 0 with h11 | h11 | h11
                        · exfalso
                          omega
                        · exfalso
                          omega
                        · rcases Int.lt_trichotomy ((-1 : Int) * A + (1 : Int) * B + (1 : Int) * C) 0 with h12 | h12 | h12
                          · exfalso
                            omega
                          · exfalso
                            omega
                          · rcases Int.lt_trichotomy ((-1 : Int) * A + (2 : Int) * B + (1 : Int) * C) 0 with h13 | h13 | h13
                            · exfalso
                              omega
                            · exfalso
                              omega
                            · rcases Int.lt_trichotomy ((-1 : Int) * A + (1 : Int) * B + (2 : Int) * C) 0 with h14 | h14 | h14
                              · exfalso
                                omega
                              · exfalso
                                omega
                              · exact leaf [((-1, 3, 0), 2), ((-1, 2, 0), 2), ((-2, 3, 0), 2), ((-3, 3, 0), 2), ((-2, 2, 0), 2), ((-1, 1, 0), 2), ((-4, 3, 0), 2), ((-3, 2, 0), 2), ((-4, 2, 0), 1), ((1, -1, 1), 0), ((-3, 2, 1), 2), ((-2, 1, 2), 2), ((-1, 1, 1), 2), ((-1, 2, 1), 2), ((-1, 1, 2), 2)] ⟨Or.inr (Or.inr ⟨rfl, h0⟩), ⟨Or.inr (Or.inr ⟨rfl, h1⟩), ⟨Or.inr (Or.inr ⟨rfl, h2⟩), ⟨Or.inr (Or.inr ⟨rfl, h3⟩), ⟨Or.inr (Or.inr ⟨rfl, h4⟩), ⟨Or.inr (Or.inr ⟨rfl, h5⟩), ⟨Or.inr (Or.inr ⟨rfl, h6⟩), ⟨Or.inr (Or.inr ⟨rfl, h7⟩), ⟨Or.inr (Or.inl ⟨rfl, h8⟩), ⟨Or.inl ⟨rfl, h9⟩, ⟨Or.inr (Or.inr ⟨rfl, h10⟩), ⟨Or.inr (Or.inr ⟨rfl, h11⟩), ⟨Or.inr (Or.inr ⟨rfl, h12⟩), ⟨Or.inr (Or.inr ⟨rfl, h13⟩), ⟨Or.inr (Or.inr ⟨rfl, h14⟩), trivial⟩⟩⟩⟩⟩⟩⟩⟩⟩⟩⟩⟩⟩⟩⟩ (by decide +kernel)
                    · exfalso
                      omega
                    · exfalso
                      omega
                  · rcases Int.lt_trichotomy ((-2 : Int) * A + (1 : Int) * B + (0 : Int) * C) 0 with h9 | h9 | h9
                    · exfalso
                      omega
                    · exfalso
                      omega
                    · rcases Int.lt_trichotomy ((-5 : Int) * A + (2 : Int) * B + (0 : Int) * C) 0 with h10 | h10 | h10
                      · rcases Int.lt_trichotomy ((1 : Int) * A + (-1 : Int) * B + (1 : Int) * C) 0 with h11 | h11 | h11
                        · rcases Int.lt_trichotomy ((-3 : Int) * A + (2 : Int) * B + (1 : Int) * C) 0 with h12 | h12 | h12
                          · exfalso
                            omega
                          · exfalso
                            omega
                          · rcases Int.lt_trichotomy ((-2 : Int) * A + (1 : Int) * B + (2 : Int) * C) 0 with h13 | h13 | h13
                            · exfalso
                              omega
                            · exfalso
                              omega
                            · rcases Int.lt_trichotomy ((-1 : Int) * A + (1 : Int) * B + (1 : Int) * C) 0 with h14 | h14 | h14
                              · exfalso
                                omega
                              · exfalso
                                omega
                              · rcases Int.lt_trichotomy ((-1 : Int) * A + (2 : Int) * B + (1 : Int) * C) 0 with h15 | h15 | h15
                                · exfalso
                                  omega
                                · exfalso
                                  omega
                                · rcases Int.lt_trichotomy ((-1 : Int) * A + (1 : Int) * B + (2 : Int) * C) 0 with h16 | h16 | h16
                                  · exfalso
                                    omega
                                  · exfalso
                                    omega
                                  · exact leaf [((-1, 3, 0), 2), ((-1, 2, 0), 2), ((-2, 3, 0), 2), ((-3, 3, 0), 2), ((-2, 2, 0), 2), ((-1, 1, 0), 2), ((-4, 3, 0), 2), ((-3, 2, 0), 2), ((-4, 2, 0), 2), ((-2, 1, 0), 2), ((-5, 2, 0), 0), ((1, -1, 1), 0), ((-3, 2, 1), 2), ((-2, 1, 2), 2), ((-1, 1, 1), 2), ((-1, 2, 1), 2), ((-1, 1, 2), 2)] ⟨Or.inr (Or.inr ⟨rfl, h0⟩), ⟨Or.inr (Or.inr ⟨rfl, h1⟩), ⟨Or.inr (Or.inr ⟨rfl, h2⟩), ⟨Or.inr (Or.inr ⟨rfl, h3⟩), ⟨Or.inr (Or.inr ⟨rfl, h4⟩), ⟨Or.inr (Or.inr ⟨rfl, h5⟩), ⟨Or.inr (Or.inr ⟨rfl, h6⟩), ⟨Or.inr (Or.inr ⟨rfl, h7⟩), ⟨Or.inr (Or.inr ⟨rfl, h8⟩), ⟨Or.inr (Or.inr ⟨rfl, h9⟩), ⟨Or.inl ⟨rfl, h10⟩, ⟨Or.inl ⟨rfl, h11⟩, ⟨Or.inr (Or.inr ⟨rfl, h12⟩), ⟨Or.inr (Or.inr ⟨rfl, h13⟩), ⟨Or.inr (Or.inr ⟨rfl, h14⟩), ⟨Or.inr (Or.inr ⟨rfl, h15⟩), ⟨Or.inr (Or.inr ⟨rfl, h16⟩), trivial⟩⟩⟩⟩⟩⟩⟩⟩⟩⟩⟩⟩⟩⟩⟩⟩⟩ (by decide +kernel)
                        · exfalso
                          omega
                        · exfalso
                          omega
                      · rcases Int.lt_trichotomy ((1 : Int) * A + (-1 : Int) * B + (1 : Int) * C) 0 with h11 | h11 | h11
                        · rcases Int.lt_trichotomy ((-3 : Int) * A + (2 : Int) * B + (1 : Int) * C) 0 with h12 | h12 | h12
                          · exfalso
                            omega
                          · exfalso
                            omega
                          · rcases Int.lt_trichotomy ((-2 : Int) * A + (1 : Int) * B + (2 : Int) * C) 0 with h13 | h13 | h13
                            · exfalso
                              omega
                            · exfalso
                              omega
                            · rcases Int.lt_trichotomy ((-1 : Int) * A + (1 : Int) * B + (1 : Int) * C) 0 with h14 | h14 | h14
                              · exfalso
                                omega
                              · exfalso
                                omega
                              · rcases Int.lt_trichotomy ((-1 : Int) * A + (2 : Int) * B + (1 : Int) * C) 0 with h15 | h15 | h15
                                · exfalso
                                  omega
                                · exfalso
                                  omega
                                · rcases Int.lt_trichotomy ((-1 : Int) * A + (1 : Int) * B + (2 : Int) * C) 0 with h16 | h16 | h16
                                  · exfalso
                                    omega
                                  · exfalso
                                    omega
                                  · exact leaf [((-1, 3, 0), 2), ((-1, 2, 0), 2), ((-2, 3, 0), 2), ((-3, 3, 0), 2), ((-2, 2, 0), 2), ((-1, 1, 0), 2), ((-4, 3, 0), 2), ((-3, 2, 0), 2), ((-4, 2, 0), 2), ((-2, 1, 0), 2), ((-5, 2, 0), 1), ((1, -1, 1), 0), ((-3, 2, 1), 2), ((-2, 1, 2), 2), ((-1, 1, 1), 2), ((-1, 2, 1), 2), ((-1, 1, 2), 2)] ⟨Or.inr (Or.inr ⟨rfl, h0⟩), ⟨Or.inr (Or.inr ⟨rfl, h1⟩), ⟨Or.inr (Or.inr ⟨rfl, h2⟩), ⟨Or.inr (Or.inr ⟨rfl, h3⟩), ⟨Or.inr (Or.inr ⟨rfl, h4⟩), ⟨Or.inr (Or.inr ⟨rfl, h5⟩), ⟨Or.inr (Or.inr ⟨rfl, h6⟩), ⟨Or.inr (Or.inr ⟨rfl, h7⟩), ⟨Or.inr (Or.inr ⟨rfl, h8⟩), ⟨Or.inr (Or.inr ⟨rfl, h9⟩), ⟨Or.inr (Or.inl ⟨rfl, h10⟩), ⟨Or.inl ⟨rfl, h11⟩, ⟨Or.inr (Or.inr ⟨rfl, h12⟩), ⟨Or.inr (Or.inr ⟨rfl, h13⟩), ⟨Or.inr (Or.inr ⟨rfl, h14⟩), ⟨Or.inr (Or.inr ⟨rfl, h15⟩), ⟨Or.inr (Or.inr ⟨rfl, h16⟩), trivial⟩⟩⟩⟩⟩⟩⟩⟩⟩⟩⟩⟩⟩⟩⟩⟩⟩ (by decide +kernel)
                        · exfalso
                          omega
                        · exfalso
                          omega
                      · rcases Int.lt_trichotomy ((-3 : Int) * A + (1 : Int) * B + (0 : Int) * C) 0 with h11 | h11 | h11
                        · rcases Int.lt_trichotomy ((-3 : Int) * A + (1 : Int) * B + (1 : Int) * C) 0 with h12 | h12 | h12
                          · rcases Int.lt_trichotomy ((1 : Int) * A + (-1 : Int) * B + (1 : Int) * C) 0 with h13 | h13 | h13
                            · rcases Int.lt_trichotomy ((-3 : Int) * A + (2 : Int) * B + (1 : Int) * C) 0 with h14 | h14 | h14
                              · exfalso
                                omega
                              · exfalso
                                omega
                              · rcases Int.lt_trichotomy ((-2 : Int) * A + (1 : Int) * B + (2 : Int) * C) 0 with h15 | h15 | h15
                                · exfalso
                                  omega
                                · exfalso
                                  omega
                                · rcases Int.lt_trichotomy ((-1 : Int) * A + (1 : Int) * B + (1 : Int) * C) 0 with h16 | h16 | h16
                                  · exfalso
                                    omega
                                  · exfalso
                                    omega
                                  · rcases Int.lt_trichotomy ((-1 : Int) * A + (2 : Int) * B + (1 : Int) * C) 0 with h17 | h17 | h17
                                    · exfalso
                                      omega
                                    · exfalso
                                      omega
                                    · rcases Int.lt_trichotomy ((-1 : Int) * A + (1 : Int) * B + (2 : Int) * C) 0 with h18 | h18 | h18
                                      · exfalso
                                        omega
                                      · exfalso
                                        omega
                                      · exact leaf [((-1, 3, 0), 2), ((-1, 2, 0), 2), ((-2, 3, 0), 2), ((-3, 3, 0), 2), ((-2, 2, 0), 2), ((-1, 1, 0), 2), ((-4, 3, 0), 2), ((-3, 2, 0), 2), ((-4, 2, 0), 2), ((-2, 1, 0), 2), ((-5, 2, 0), 2), ((-3, 1, 0), 0), ((-3, 1, 1), 0), ((1, -1, 1), 0), ((-3, 2, 1), 2), ((-2, 1, 2), 2), ((-1, 1, 1), 2), ((-1, 2, 1), 2), ((-1, 1, 2), 2)] ⟨Or.inr (Or.inr ⟨rfl, h0⟩), ⟨Or.inr (Or.inr ⟨rfl, h1⟩), ⟨Or.inr (Or.inr ⟨rfl, h2⟩), ⟨Or.inr (Or.inr ⟨rfl, h3⟩), ⟨Or.inr (Or.inr ⟨rfl, h4⟩), ⟨Or.inr (Or.inr ⟨rfl, h5⟩), ⟨Or.inr (Or.inr ⟨rfl, h6⟩), ⟨Or.inr (Or.inr ⟨rfl, h7⟩), ⟨Or.inr (Or.inr ⟨rfl, h8⟩), ⟨Or.inr (Or.inr ⟨rfl, h9⟩), ⟨Or.inr (Or.inr ⟨rfl, h10⟩), ⟨Or.inl ⟨rfl, h11⟩, ⟨Or.inl ⟨rfl, h12⟩, ⟨Or.inl ⟨rfl, h13⟩, ⟨Or.inr (Or.inr ⟨rfl, h14⟩), ⟨Or.inr (Or.inr ⟨rfl, h15⟩), ⟨Or.inr (Or.inr ⟨rfl, h16⟩), ⟨Or.inr (Or.inr ⟨rfl, h17⟩), ⟨Or.inr (Or.inr ⟨rfl, h18⟩), trivial⟩⟩⟩⟩⟩⟩⟩⟩⟩⟩⟩⟩⟩⟩⟩⟩⟩⟩⟩ (by decide +kernel)
                            · exfalso
                              omega
                            · exfalso
                              omega
                          · rcases Int.lt_trichotomy ((1 : Int) * A + (-1 : Int) * B + (1 : Int) * C) 0 with h13 | h13 | h13
                            · rcases Int.lt_trichotomy ((-3 : Int) * A + (2 : Int) * B + (1 : Int) * C) 0 with h14 | h14 | h14
                              · exfalso
                                omega
                              · exfalso
                                omega
                              · rcases Int.lt_trichotomy ((-2 : Int) * A + (1 : Int) * B + (2 : Int) * C) 0 with h15 | h15 | h15
                                · exfalso
                                  omega
                                · exfalso
                                  omega
                                · rcases Int.lt_trichotomy ((-1 : Int) * A + (1 : Int) * B + (1 : Int) * C) 0 with h16 | h16 | h16
                                  · exfalso
                                    omega
                                  · exfalso
                                    omega
                                  · rcases Int.lt_trichotomy ((-1 : Int) * A + (2 : Int) * B + (1 : Int) * C) 0 with h17 | h17 | h17
                                    · exfalso
                                      omega
                                    · exfalso
                                      omega
                                    · rcases Int.lt_trichotomy ((-1 : Int) * A + (1 : Int) * B + (2 : Int) * C) 0 with h18 | h18 | h18
                                      · exfalso
                                        omega
                                      · exfalso
                                        omega
                                      · exact leaf [((-1, 3, 0), 2), ((-1, 2, 0), 2), ((-2, 3, 0), 2), ((-3, 3, 0), 2), ((-2, 2, 0), 2), ((-1, 1, 0), 2), ((-4, 3, 0), 2), ((-3, 2, 0), 2), ((-4, 2, 0), 2), ((-2, 1, 0), 2), ((-5, 2, 0), 2), ((-3, 1, 0), 0), ((-3, 1, 1), 1), ((1, -1, 1), 0), ((-3, 2, 1), 2), ((-2, 1, 2), 2), ((-1, 1, 1), 2), ((-1, 2, 1), 2), ((-1, 1, 2), 2)] ⟨Or.inr (Or.inr ⟨rfl, h0⟩), ⟨Or.inr (Or.inr ⟨rfl, h1⟩), ⟨Or.inr (Or.inr ⟨rfl, h2⟩), ⟨Or.inr (Or.inr ⟨rfl, h3⟩), ⟨Or.inr (Or.inr ⟨rfl, h4⟩), ⟨Or.inr (Or.inr ⟨rfl, h5⟩), ⟨Or.inr (Or.inr ⟨rfl, h6⟩), ⟨Or.inr (Or.inr ⟨rfl, h7⟩), ⟨Or.inr (Or.inr ⟨rfl, h8⟩), ⟨Or.inr (Or.inr ⟨rfl, h9⟩), ⟨Or.inr (Or.inr ⟨rfl, h10⟩), ⟨Or.inl ⟨rfl, h11⟩, ⟨Or.inr (Or.inl ⟨rfl, h12⟩), ⟨Or.inl ⟨rfl, h13⟩, ⟨Or.inr (Or.inr ⟨rfl, h14⟩), ⟨Or.inr (Or.inr ⟨rfl, h15⟩), ⟨Or.inr (Or.inr ⟨rfl, h16⟩), ⟨Or.inr (Or.inr ⟨rfl, h17⟩), ⟨Or.inr (Or.inr ⟨rfl, h18⟩), trivial⟩⟩⟩⟩⟩⟩⟩⟩⟩⟩⟩⟩⟩⟩⟩⟩⟩⟩⟩ (by decide +kernel)
                            · exfalso
                              omega
                            · exfalso
                              omega
                          · rcases Int.lt_trichotomy ((1 : Int) * A + (-1 : Int) * B + (1 : Int) * C) 0 with h13 | h13 | h13
                            · rcases Int.lt_trichotomy ((-3 : Int) * A + (2 : Int) * B + (1 : Int) * C) 0 with h14 | h14 | h14
                              · exfalso
                                omega
                              · exfalso
                                omega
                              · rcases Int.lt_trichotomy ((-2 : Int) * A + (1 : Int) * B + (2 : Int) * C) 0 with h15 | h15 | h15
                                · exfalso
                                  omega
                                · exfalso
                                  omega
                                · rcases Int.lt_trichotomy ((-1 : Int) * A + (1 : Int) * B + (1 : Int) * C) 0 with h16 | h16 | h16
                                  · exfalso
                                    omega
                                  · exfalso
                                    omega
                                  · rcases Int.lt_trichotomy ((-1 : Int) * A + (2 : Int) * B + (1 : Int) * C) 0 with h17 | h17 | h17
                                    · exfalso
                                      omega
                                    · exfalso
                                      omega
                                    · rcases Int.lt_trichotomy ((-1 : Int) * A + (1 : Int) * B + (2 : Int) * C) 0 with h18 | h18 | h18
                                      · exfalso
                                        omega
                                      · exfalso
                                        omega
                                      · exact leaf [((-1, 3, 0), 2), ((-1, 2, 0), 2), ((-2, 3, 0), 2), ((-3, 3, 0), 2), ((-2, 2, 0), 2), ((-1, 1, 0), 2), ((-4, 3, 0), 2), ((-3, 2, 0), 2), ((-4, 2, 0), 2), ((-2, 1, 0), 2), ((-5, 2, 0), 2), ((-3, 1, 0), 0), ((-3, 1, 1), 2), ((1, -1, 1), 0), ((-3, 2, 1), 2), ((-2, 1, 2), 2), ((-1, 1, 1), 2), ((-1, 2, 1), 2), ((-1, 1, 2), 2)] ⟨Or.inr (Or.inr ⟨rfl, h0⟩), ⟨Or.inr (Or.inr ⟨rfl, h1⟩), ⟨Or.inr (Or.inr ⟨rfl, h2⟩), ⟨Or.inr (Or.inr ⟨rfl, h3⟩), ⟨Or.inr (Or.inr ⟨rfl, h4⟩), ⟨Or.inr (Or.inr ⟨rfl, h5⟩), ⟨Or.inr (Or.inr ⟨rfl, h6⟩), ⟨Or.inr (Or.inr ⟨rfl, h7⟩), ⟨Or.inr (Or.inr ⟨rfl, h8⟩), ⟨Or.inr (Or.inr ⟨rfl, h9⟩), ⟨Or.inr (Or.inr ⟨rfl, h10⟩), ⟨Or.inl ⟨rfl, h11⟩, ⟨Or.inr (Or.inr ⟨rfl, h12⟩), ⟨Or.inl ⟨rfl, h13⟩, ⟨Or.inr (Or.inr ⟨rfl, h14⟩), ⟨Or.inr (Or.inr ⟨rfl, h15⟩), ⟨Or.inr (Or.inr ⟨rfl, h16⟩), ⟨Or.inr (Or.inr ⟨rfl, h17⟩), ⟨Or.inr (Or.inr ⟨rfl, h18⟩), trivial⟩⟩⟩⟩⟩⟩⟩⟩⟩⟩⟩⟩⟩⟩⟩⟩⟩⟩⟩ (by decide +kernel)
                            · exfalso
                              omega
                            · exfalso
                              omega
                        · rcases Int.lt_trichotomy ((-3 : Int) * A + (1 : Int) * B + (1 : Int) * C) 0 with h12 | h12 | h12
                          · exfalso
                            omega
                          · exfalso
                            omega
                          · rcases Int.lt_trichotomy ((1 : Int) * A + (-1 : Int) * B + (1 : Int) * C) 0 with h13 | h13 | h13
                            · rcases Int.lt_trichotomy ((-3 : Int) * A + (2 : Int) * B + (1 : Int) * C) 0 with h14 | h14 | h14
                              · exfalso
                                omega
                              · exfalso
                                omega
                              · rcases Int.lt_trichotomy ((-2 : Int) * A + (1 : Int) * B + (2 : Int) * C) 0 with h15 | h15 | h15
                                · exfalso
                                  omega
                                · exfalso
                                  omega
                                · rcases Int.lt_trichotomy ((-1 : Int) * A + (1 : Int) * B + (1 : Int) * C) 0 with h16 | h16 | h16
                                  · exfalso
                                    omega
                                  · exfalso
                                    omega
                                  · rcases Int.lt_trichotomy ((-1 : Int) * A + (2 : Int) * B + (1 : Int) * C) 0 with h17 | h17 | h17
                                    · exfalso
                                      omega
                                    · exfalso
                                      omega
                                    · rcases Int.lt_trichotomy ((-1 : Int) * A + (1 : Int) * B + (2 : Int) * C) 0 with h18 | h18 | h18
                                      · exfalso
                                        omega
                                      · exfalso
                                        omega
                                      · exact leaf [((-1, 3, 0), 2), ((-1, 2, 0), 2), ((-2, 3, 0), 2), ((-3, 3, 0), 2), ((-2, 2, 0), 2), ((-1, 1, 0), 2), ((-4, 3, 0), 2), ((-3, 2, 0), 2), ((-4, 2, 0), 2), ((-2, 1, 0), 2), ((-5, 2, 0), 2), ((-3, 1, 0), 1), ((-3, 1, 1), 2), ((1, -1, 1), 0), ((-3, 2, 1), 2), ((-2, 1, 2), 2), ((-1, 1, 1), 2), ((-1, 2, 1), 2), ((-1, 1, 2), 2)] ⟨Or.inr (Or.inr ⟨rfl, h0⟩), ⟨Or.inr (Or.inr ⟨rfl, h1⟩), ⟨Or.inr (Or.inr ⟨rfl, h2⟩), ⟨Or.inr (Or.inr ⟨rfl, h3⟩), ⟨Or.inr (Or.inr ⟨rfl, h4⟩), ⟨Or.inr (Or.inr ⟨rfl, h5⟩), ⟨Or.inr (Or.inr ⟨rfl, h6⟩), ⟨Or.inr (Or.inr ⟨rfl, h7⟩), ⟨Or.inr (Or.inr ⟨rfl, h8⟩), ⟨Or.inr (Or.inr ⟨rfl, h9⟩), ⟨Or.inr (Or.inr ⟨rfl, h10⟩), ⟨Or.inr (Or.inl ⟨rfl, h11⟩), ⟨Or.inr (Or.inr ⟨rfl, h12⟩), ⟨Or.inl ⟨rfl, h13⟩, ⟨Or.inr (Or.inr ⟨rfl, h14⟩), ⟨Or.inr (Or.inr ⟨rfl, h15⟩), ⟨Or.inr (Or.inr ⟨rfl, h16⟩), ⟨Or.inr (Or.inr ⟨rfl, h17⟩), ⟨Or.inr (Or.inr ⟨rfl, h18⟩), trivial⟩⟩⟩⟩⟩⟩⟩⟩⟩⟩⟩⟩⟩⟩⟩⟩⟩⟩⟩ (by decide +kernel)
                            · exfalso
                              omega
                            · exfalso
                              omega
                        · rcases Int.lt_trichotomy ((-4 : Int) * A + (1 : Int) * B + (0 : Int) * C) 0 with h12 | h12 | h12
                          · rcases Int.lt_trichotomy ((2 : Int) * A + (-1 : Int) * B + (1 : Int) * C) 0 with h13 | h13 | h13
                            · rcases Int.lt_trichotomy ((-3 : Int) * A + (1 : Int) * B + (1 : Int) * C) 0 with h14 | h14 | h14
                              · exfalso
                                omega
                              · exfalso
                                omega
                              · rcases Int.lt_trichotomy ((1 : Int) * A + (-1 : Int) * B + (1 : Int) * C) 0 with h15 | h15 | h15
                                · rcases Int.lt_trichotomy ((-3 : Int) * A + (2 : Int) * B + (1 : Int) * C) 0 with h16 | h16 | h16
                                  · exfalso
                                    omega
                                  · exfalso
                                    omega
                                  · rcases Int.lt_trichotomy ((-2 : Int) * A + (1 : Int) * B + (2 : Int) * C) 0 with h17 | h17 | h17
                                    · exfalso
                                      omega
                                    · exfalso
                                      omega
                                    · rcases Int.lt_trichotomy ((-1 : Int) * A + (1 : Int) * B + (1 : Int) * C) 0 with h18 | h18 | h18
                                      · exfalso
                                        omega
                                      · exfalso
                                        omega
                                      · rcases Int.lt_trichotomy ((-1 : Int) * A + (2 : Int) * B + (1 : Int) * C) 0 with h19 | h19 | h19
                                        · exfalso
                                          omega
                                        · exfalso
                                          omega
                                        · rcases Int.lt_trichotomy ((-1 : Int) * A + (1 : Int) * B + (2 : Int) * C) 0 with h20 | h20 | h20
                                          · exfalso
                                            omega
                                          · exfalso
                                            omega
                                          · exact leaf [((-1, 3, 0), 2), ((-1, 2, 0), 2), ((-2, 3, 0), 2), ((-3, 3, 0), 2), ((-2, 2, 0), 2), ((-1, 1, 0), 2), ((-4, 3, 0), 2), ((-3, 2, 0), 2), ((-4, 2, 0), 2), ((-2, 1, 0), 2), ((-5, 2, 0), 2), ((-3, 1, 0), 2), ((-4, 1, 0), 0), ((2, -1, 1), 0), ((-3, 1, 1), 2), ((1, -1, 1), 0), ((-3, 2, 1), 2), ((-2, 1, 2), 2), ((-1, 1, 1), 2), ((-1, 2, 1), 2), ((-1, 1, 2), 2)] ⟨Or.inr (Or.inr ⟨rfl, h0⟩), ⟨Or.inr (Or.inr ⟨rfl, h1⟩), ⟨Or.inr (Or.inr ⟨rfl, h2⟩), ⟨Or.inr (Or.inr ⟨rfl, h3⟩), ⟨Or.inr (Or.inr ⟨rfl, h4⟩), ⟨Or.inr (Or.inr ⟨rfl, h5⟩), ⟨Or.inr (Or.inr ⟨rfl, h6⟩), ⟨Or.inr (Or.inr ⟨rfl, h7⟩), ⟨Or.inr (Or.inr ⟨rfl, h8⟩), ⟨Or.inr (Or.inr ⟨rfl, h9⟩), ⟨Or.inr (Or.inr ⟨rfl, h10⟩), ⟨Or.inr (Or.inr ⟨rfl, h11⟩), ⟨Or.inl ⟨rfl, h12⟩, ⟨Or.inl ⟨rfl, h13⟩, ⟨Or.inr (Or.inr ⟨rfl, h14⟩), ⟨Or.inl ⟨rfl, h15⟩, ⟨Or.inr (Or.inr ⟨rfl, h16⟩), ⟨Or.inr (Or.inr ⟨rfl, h17⟩), ⟨Or.inr (Or.inr ⟨rfl, h18⟩), ⟨Or.inr (Or.inr ⟨rfl, h19⟩), ⟨Or.inr (Or.inr ⟨rfl, h20⟩), trivial⟩⟩⟩⟩⟩⟩⟩⟩⟩⟩⟩⟩⟩⟩⟩⟩⟩⟩⟩⟩⟩ (by decide +kernel)
                                · exfalso
                                  omega
                                · exfalso
                                  omega
                            · exfalso
                              omega
                            · exfalso
                              omega
                          · rcases Int.lt_trichotomy ((2 : Int) * A + (-1 : Int) * B + (1 : Int) * C) 0 with h13 | h13 | h13
                            · rcases Int.lt_trichotomy ((-3 : Int) * A + (1 : Int) * B + (1 : Int) * C) 0 with h14 | h14 | h14
                              · exfalso
                                omega
                              · exfalso
                                omega
                              · rcases Int.lt_trichotomy ((1 : Int) * A + (-1 : Int) * B + (1 : Int) * C) 0 with h15 | h15 | h15
                                · rcases Int.lt_trichotomy ((-3 : Int) * A + (2 : Int) * B + (1 : Int) * C) 0 with h16 | h16 | h16
                                  · exfalso
                                    omega
                                  · exfalso
                                    omega
                                  · rcases Int.lt_trichotomy ((-2 : Int) * A + (1 : Int) * B + (2 : Int) * C) 0 with h17 | h17 | h17
                                    · exfalso
                                      omega
                                    · exfalso
                                      omega
                                    · rcases Int.lt_trichotomy ((-1 : Int) * A + (1 : Int) * B + (1 : Int) * C) 0 with h18 | h18 | h18
                                      · exfalso
                                        omega
                                      · exfalso
                                        omega
                                      · rcases Int.lt_trichotomy ((-1 : Int) * A + (2 : Int) * B + (1 : Int) * C) 0 with h19 | h19 | h19
                                        · exfalso
                                          omega
                                        · exfalso
                                          omega
                                        · rcases Int.lt_trichotomy ((-1 : Int) * A + (1 : Int) * B + (2 : Int) * C) 0 with h20 | h20 | h20
                                          · exfalso
                                            omega
                                          · exfalso
                                            omega
                                          · exact leaf [((-1, 3, 0), 2), ((-1, 2, 0), 2), ((-2, 3, 0), 2), ((-3, 3, 0), 2), ((-2, 2, 0), 2), ((-1, 1, 0), 2), ((-4, 3, 0), 2), ((-3, 2, 0), 2), ((-4, 2, 0), 2), ((-2, 1, 0), 2), ((-5, 2, 0), 2), ((-3, 1, 0), 2), ((-4, 1, 0), 1), ((2, -1, 1), 0), ((-3, 1, 1), 2), ((1, -1, 1), 0), ((-3, 2, 1), 2), ((-2, 1, 2), 2), ((-1, 1, 1), 2), ((-1, 2, 1), 2), ((-1, 1, 2), 2)] ⟨Or.inr (Or.inr ⟨rfl, h0⟩), ⟨Or.inr (Or.inr ⟨rfl, h1⟩), ⟨Or.inr (Or.inr ⟨rfl, h2⟩), ⟨Or.inr (Or.inr ⟨rfl, h3⟩), ⟨Or.inr (Or.inr ⟨rfl, h4⟩), ⟨Or.inr (Or.inr ⟨rfl, h5⟩), ⟨Or.inr (Or.inr ⟨rfl, h6⟩), ⟨Or.inr (Or.inr ⟨rfl, h7⟩), ⟨Or.inr (Or.inr ⟨rfl, h8⟩), ⟨Or.inr (Or.inr ⟨rfl, h9⟩), ⟨Or.inr (Or.inr ⟨rfl, h10⟩), ⟨Or.inr (Or.inr ⟨rfl, h11⟩), ⟨Or.inr (Or.inl ⟨rfl, h12⟩), ⟨Or.inl ⟨rfl, h13⟩, ⟨Or.inr (Or.inr ⟨rfl, h14⟩), ⟨Or.inl ⟨rfl, h15⟩, ⟨Or.inr (Or.inr ⟨rfl, h16⟩), ⟨Or.inr (Or.inr ⟨rfl, h17⟩), ⟨Or.inr (Or.inr ⟨rfl, h18⟩), ⟨Or.inr (Or.inr ⟨rfl, h19⟩), ⟨Or.inr (Or.inr ⟨rfl, h20⟩), trivial⟩⟩⟩⟩⟩⟩⟩⟩⟩⟩⟩⟩⟩⟩⟩⟩⟩⟩⟩⟩⟩ (by decide +kernel)
                                · exfalso
                                  omega
                                · exfalso
                                  omega
                            · exfalso
                              omega
                            · exfalso
                              omega
                          · rcases Int.lt_trichotomy ((-5 : Int) * A + (1 : Int) * B + (0 : Int) * C) 0 with h13 | h13 | h13
                            · rcases Int.lt_trichotomy ((2 : Int) * A + (-1 : Int) * B + (1 : Int) * C) 0 with h14 | h14 | h14
                              · rcases Int.lt_trichotomy ((-3 : Int) * A + (1 : Int) * B + (1 : Int) * C) 0 with h15 | h15 | h15
                                · exfalso
                                  omega
                                · exfalso
                                  omega
                                · rcases Int.lt_trichotomy ((1 : Int) * A + (-1 : Int) * B + (1 : Int) * C) 0 with h16 | h16 | h16
                                  · rcases Int.lt_trichotomy ((-3 : Int) * A + (2 : Int) * B + (1 : Int) * C) 0 with h17 | h17 | h17
                                    · exfalso
                                      omega
                                    · exfalso
                                      omega
                                    · rcases Int.lt_trichotomy ((-2 : Int) * A + (1 : Int) * B + (2 : Int) * C) 0 with h18 | h18 | h18
                                      · exfalso
                                        omega
                                      · exfalso
                                        omega
                                      · rcases Int.lt_trichotomy ((-1 : Int) * A + (1 : Int) * B + (1 : Int) * C) 0 with h19 | h19 | h19
                                        · exfalso
                                          omega
                                        · exfalso
                                          omega
                                        · rcases Int.lt_trichotomy ((-1 : Int) * A + (2 : Int) * B + (1 : Int) * C) 0 with h20 | h20 | h20
                                          · exfalso
                                            omega
                                          · exfalso
                                            omega
                                          · rcases Int.lt_trichotomy ((-1 : Int) * A + (1 : Int) * B + (2 : Int) * C) 0 with h21 | h21 | h21
                                            · exfalso
                                              omega
                                            · exfalso
                                              omega
                                            · exact leaf [((-1, 3, 0), 2), ((-1, 2, 0), 2), ((-2, 3, 0), 2), ((-3, 3, 0), 2), ((-2, 2, 0), 2), ((-1, 1, 0), 2), ((-4, 3, 0), 2), ((-3, 2, 0), 2), ((-4, 2, 0), 2), ((-2, 1, 0), 2), ((-5, 2, 0), 2), ((-3, 1, 0), 2), ((-4, 1, 0), 2), ((-5, 1, 0), 0), ((2, -1, 1), 0), ((-3, 1, 1), 2), ((1, -1, 1), 0), ((-3, 2, 1), 2), ((-2, 1, 2), 2), ((-1, 1, 1), 2), ((-1, 2, 1), 2), ((-1, 1, 2), 2)] ⟨Or.inr (Or.inr ⟨rfl, h0⟩), ⟨Or.inr (Or.inr ⟨rfl, h1⟩), ⟨Or.inr (Or.inr ⟨rfl, h2⟩), ⟨Or.inr (Or.inr ⟨rfl, h3⟩), ⟨Or.inr (Or.inr ⟨rfl, h4⟩), ⟨Or.inr (Or.inr ⟨rfl, h5⟩), ⟨Or.inr (Or.inr ⟨rfl, h6⟩), ⟨Or.inr (Or.inr ⟨rfl, h7⟩), ⟨Or.inr (Or.inr ⟨rfl, h8⟩), ⟨Or.inr (Or.inr ⟨rfl, h9⟩), ⟨Or.inr (Or.inr ⟨rfl, h10⟩), ⟨Or.inr (Or.inr ⟨rfl, h11⟩), ⟨Or.inr (Or.inr ⟨rfl, h12⟩), ⟨Or.inl ⟨rfl, h13⟩, ⟨Or.inl ⟨rfl, h14⟩, ⟨Or.inr (Or.inr ⟨rfl, h15⟩), ⟨Or.inl ⟨rfl, h16⟩, ⟨Or.inr (Or.inr ⟨rfl, h17⟩), ⟨Or.inr (Or.inr ⟨rfl, h18⟩), ⟨Or.inr (Or.inr ⟨rfl, h19⟩), ⟨Or.inr (Or.inr ⟨rfl, h20⟩), ⟨Or.inr (Or.inr ⟨rfl, h21⟩), trivial⟩⟩⟩⟩⟩⟩⟩⟩⟩⟩⟩⟩⟩⟩⟩⟩⟩⟩⟩⟩⟩⟩ (by decide +kernel)
                                  · exfalso
                                    omega
                                  · exfalso
                                    omega
                              · exfalso
                                omega
                              · exfalso
                                omega
                            · rcases Int.lt_trichotomy ((2 : Int) * A + (-1 : Int) * B + (1 : Int) * C) 0 with h14 | h14 | h14
                              · rcases Int.lt_trichotomy ((-3 : Int) * A + (1 : Int) * B + (1 : Int) * C) 0 with h15 | h15 | h15
                                · exfalso
                                  omega
                                · exfalso
                                  omega
                                · rcases Int.lt_trichotomy ((1 : Int) * A + (-1 : Int) * B + (1 : Int) * C) 0 with h16 | h16 | h16
                                  · rcases Int.lt_trichotomy ((-3 : Int) * A + (2 : Int) * B + (1 : Int) * C) 0 with h17 | h17 | h17
                                    · exfalso
                                      omega
                                    · exfalso
                                      omega
                                    · rcases Int.lt_trichotomy ((-2 : Int) * A + (1 : Int) * B + (2 : Int) * C) 0 with h18 | h18 | h18
                                      · exfalso
                                        omega
                                      · exfalso
                                        omega
                                      · rcases Int.lt_trichotomy ((-1 : Int) * A + (1 : Int) * B + (1 : Int) * C) 0 with h19 | h19 | h19
                                        · exfalso
                                          omega
                                        · exfalso
                                          omega
                                        · rcases Int.lt_trichotomy ((-1 : Int) * A + (2 : Int) * B + (1 : Int) * C) 0 with h20 | h20 | h20
                                          · exfalso
                                            omega
                                          · exfalso
                                            omega
                                          · rcases Int.lt_trichotomy ((-1 : Int) * A + (1 : Int) * B + (2 : Int) * C) 0 with h21 | h21 | h21
                                            · exfalso
                                              omega
                                            · exfalso
                                              omega
                                            · exact leaf [((-1, 3, 0), 2), ((-1, 2, 0), 2), ((-2, 3, 0), 2), ((-3, 3, 0), 2), ((-2, 2, 0), 2), ((-1, 1, 0), 2), ((-4, 3, 0), 2), ((-3, 2, 0), 2), ((-4, 2, 0), 2), ((-2, 1, 0), 2), ((-5, 2, 0), 2), ((-3, 1, 0), 2), ((-4, 1, 0), 2), ((-5, 1, 0), 1), ((2, -1, 1), 0), ((-3, 1, 1), 2), ((1, -1, 1), 0), ((-3, 2, 1), 2), ((-2, 1, 2), 2), ((-1, 1, 1), 2), ((-1, 2, 1), 2), ((-1, 1, 2), 2)] ⟨Or.inr (Or.inr ⟨rfl, h0⟩), ⟨Or.inr (Or.inr ⟨rfl, h1⟩), ⟨Or.inr (Or.inr ⟨rfl, h2⟩), ⟨Or.inr (Or.inr ⟨rfl, h3⟩), ⟨Or.inr (Or.inr ⟨rfl, h4⟩), ⟨Or.inr (Or.inr ⟨rfl, h5⟩), ⟨Or.inr (Or.inr ⟨rfl, h6⟩), ⟨Or.inr (Or.inr ⟨rfl, h7⟩), ⟨Or.inr (Or.inr ⟨rfl, h8⟩), ⟨Or.inr (Or.inr ⟨rfl, h9⟩), ⟨Or.inr (Or.inr ⟨rfl, h10⟩), ⟨Or.inr (Or.inr ⟨rfl, h11⟩), ⟨Or.inr (Or.inr ⟨rfl, h12⟩), ⟨Or.inr (Or.inl ⟨rfl, h13⟩), ⟨Or.inl ⟨rfl, h14⟩, ⟨Or.inr (Or.inr ⟨rfl, h15⟩), ⟨Or.inl ⟨rfl, h16⟩, ⟨Or.inr (Or.inr ⟨rfl, h17⟩), ⟨Or.inr (Or.inr ⟨rfl, h18⟩), ⟨Or.inr (Or.inr ⟨rfl, h19⟩), ⟨Or.inr (Or.inr ⟨rfl, h20⟩), ⟨Or.inr (Or.inr ⟨rfl, h21⟩), trivial⟩⟩⟩⟩⟩⟩⟩⟩⟩⟩⟩⟩⟩⟩⟩⟩⟩⟩⟩⟩⟩⟩ (by decide +kernel)
                                  · exfalso
                                    omega
                                  · exfalso
                                    omega
                              · exfalso
                                omega
                              · exfalso
                                omega
                            · rcases Int.lt_trichotomy ((2 : Int) * A + (-1 : Int) * B + (1 : Int) * C) 0 with h14 | h14 | h14
                              · rcases Int.lt_trichotomy ((-3 : Int) * A + (1 : Int) * B + (1 : Int) * C) 0 with h15 | h15 | h15
                                · exfalso
                                  omega
                                · exfalso
                                  omega
                                · rcases Int.lt_trichotomy ((1 : Int) * A + (-1 : Int) * B + (1 : Int) * C) 0 with h16 | h16 | h16
                                  · rcases Int.lt_trichotomy ((-3 : Int) * A + (2 : Int) * B + (1 : Int) * C) 0 with h17 | h17 | h17
                                    · exfalso
                                      omega
                                    · exfalso
                                      omega
                                    · rcases Int.lt_trichotomy ((-2 : Int) * A + (1 : Int) * B + (2 : Int) * C) 0 with h18 | h18 | h18
                                      · exfalso
                                        omega
                                      · exfalso
                                        omega
                                      · rcases Int.lt_trichotomy ((-1 : Int) * A + (1 : Int) * B + (1 : Int) * C) 0 with h19 | h19 | h19
                                        · exfalso
                                          omega
                                        · exfalso
                                          omega
                                        · rcases Int.lt_trichotomy ((-1 : Int) * A + (2 : Int) * B + (1 : Int) * C) 0 with h20 | h20 | h20
                                          · exfalso
                                            omega
                                          · exfalso
                                            omega
                                          · rcases Int.lt_trichotomy ((-1 : Int) * A + (1 : Int) * B + (2 : Int) * C) 0 with h21 | h21 | h21
                                            · exfalso
                                              omega
                                            · exfalso
                                              omega
                                            · exact leaf [((-1, 3, 0), 2), ((-1, 2, 0), 2), ((-2, 3, 0), 2), ((-3, 3, 0), 2), ((-2, 2, 0), 2), ((-1, 1, 0), 2), ((-4, 3, 0), 2), ((-3, 2, 0), 2), ((-4, 2, 0), 2), ((-2, 1, 0), 2), ((-5, 2, 0), 2), ((-3, 1, 0), 2), ((-4, 1, 0), 2), ((-5, 1, 0), 2), ((2, -1, 1), 0), ((-3, 1, 1), 2), ((1, -1, 1), 0), ((-3, 2, 1), 2), ((-2, 1, 2), 2), ((-1, 1, 1), 2), ((-1, 2, 1), 2), ((-1, 1, 2), 2)] ⟨Or.inr (Or.inr ⟨rfl, h0⟩), ⟨Or.inr (Or.inr ⟨rfl, h1⟩), ⟨Or.inr (Or.inr ⟨rfl, h2⟩), ⟨Or.inr (Or.inr ⟨rfl, h3⟩), ⟨Or.inr (Or.inr ⟨rfl, h4⟩), ⟨Or.inr (Or.inr ⟨rfl, h5⟩), ⟨Or.inr (Or.inr ⟨rfl, h6⟩), ⟨Or.inr (Or.inr ⟨rfl, h7⟩), ⟨Or.inr (Or.inr ⟨rfl, h8⟩), ⟨Or.inr (Or.inr ⟨rfl, h9⟩), ⟨Or.inr (Or.inr ⟨rfl, h10⟩), ⟨Or.inr (Or.inr ⟨rfl, h11⟩), ⟨Or.inr (Or.inr ⟨rfl, h12⟩), ⟨Or.inr (Or.inr ⟨rfl, h13⟩), ⟨Or.inl ⟨rfl, h14⟩, ⟨Or.inr (Or.inr ⟨rfl, h15⟩), ⟨Or.inl ⟨rfl, h16⟩, ⟨Or.inr (Or.inr ⟨rfl, h17⟩), ⟨Or.inr (Or.inr ⟨rfl, h18⟩), ⟨Or.inr (Or.inr ⟨rfl, h19⟩), ⟨Or.inr (Or.inr ⟨rfl, h20⟩), ⟨Or.inr (Or.inr ⟨rfl, h21⟩), trivial⟩⟩⟩⟩⟩⟩⟩⟩⟩⟩⟩⟩⟩⟩⟩⟩⟩⟩⟩⟩⟩⟩ (by decide +kernel)
                                  · exfalso
                                    omega
                                  · exfalso
                                    omega
                              · exfalso
                                omega
                              · exfalso
                                omega
theorem hz_tree5 {A B C : Int} {P : Prop} (hc : hz_cone A B C) (leaf : ∀ l, hz_kok A B C l → hz_toL (hz_insall (hz_sgE l) hz_sqE 24) = some [0, 20, 23, 3] → P) : P := by
  obtain ⟨c1, c2, c3⟩ := hc
  rcases Int.lt_trichotomy ((-3 : Int) * A + (3 : Int) * B + (0 : Int) * C) 0 with h0 | h0 | h0
  · exact leaf [((-3, 3, 0), 0)] ⟨Or.inl ⟨rfl, h0⟩, trivial⟩ (by decide +kernel)
  · exact leaf [((-3, 3, 0), 1)] ⟨Or.inr (Or.inl ⟨rfl, h0⟩), trivial⟩ (by decide +kernel)
  · rcases Int.lt_trichotomy ((-3 : Int) * A + (2 : Int) * B + (3 : Int) * C) 0 with h1 | h1 | h1
    · exact leaf [((-3, 3, 0), 2), ((-3, 2, 3), 0)] ⟨Or.inr (Or.inr ⟨rfl, h0⟩), ⟨Or.inl ⟨rfl, h1⟩, trivial⟩⟩ (by decide +kernel)
    · exact leaf [((-3, 3, 0), 2), ((-3, 2, 3), 1)] ⟨Or.inr (Or.inr ⟨rfl, h0⟩), ⟨Or.inr (Or.inl ⟨rfl, h1⟩), trivial⟩⟩ (by decide +kernel)
    · rcases Int.lt_trichotomy ((-3 : Int) * A + (1 : Int) * B + (6 : Int) * C) 0 with h2 | h2 | h2
      · exact leaf [((-3, 3, 0), 2), ((-3, 2, 3), 2), ((-3, 1, 6), 0)] ⟨Or.inr (Or.inr ⟨rfl, h0⟩), ⟨Or.inr (Or.inr ⟨rfl, h1⟩), ⟨Or.inl ⟨rfl, h2⟩, trivial⟩⟩⟩ (by decide +kernel)
      · exact leaf [((-3, 3, 0), 2), ((-3, 2, 3), 2), ((-3, 1, 6), 1)] ⟨Or.inr (Or.inr ⟨rfl, h0⟩), ⟨Or.inr (Or.inr ⟨rfl, h1⟩), ⟨Or.inr (Or.inl ⟨rfl, h2⟩), trivial⟩⟩⟩ (by decide +kernel)
      · exact leaf [((-3, 3, 0), 2), ((-3, 2, 3), 2), ((-3, 1, 6), 2)] ⟨Or.inr (Or.inr ⟨rfl, h0⟩), ⟨Or.inr (Or.inr ⟨rfl, h1⟩), ⟨Or.inr (Or.inr ⟨rfl, h2⟩), trivial⟩⟩⟩ (by decide +kernel)
end
section
def hz_tb (x : Int32) (i : Nat) : Bool := x.toBitVec.getLsbD i
theorem hz_tbor (x y : Int32) (i : Nat) : hz_tb (x ||| y) i = (hz_tb x i || hz_tb y i) := by unfold hz_tb; rw [Int32.toBitVec_or, BitVec.getLsbD_or]
theorem hz_tband (x y : Int32) (i : Nat) : hz_tb (x &&& y) i = (hz_tb x i && hz_tb y i) := by unfold hz_tb; rw [Int32.toBitVec_and, BitVec.getLsbD_and]
theorem hz_tbs : ∀ n, n < 32 → ((nI n &&& 31).toBitVec.smod 32).toNat = n := by decide +kernel
theorem hz_tbshr (n : Nat) (hn : n < 32) (x : Int32) {i : Nat} (hi : i < 32) : hz_tb (x >>> (nI n &&& 31)) i = if n + i < 32 then hz_tb x (n + i) else hz_tb x 31 := by
  unfold hz_tb
  rw [Int32.toBitVec_shiftRight]
  show (x.toBitVec.sshiftRight ((nI n &&& 31).toBitVec.smod 32).toNat).getLsbD i = _
  rw [hz_tbs n hn, BitVec.getLsbD_sshiftRight, BitVec.msb_eq_getLsbD_last]
  simp [hi]
theorem hz_bit23 (x : Int32) : ¬ (((x ||| ((1 : Int32) <<< (nI 23 &&& 31))) >>> (nI 23 &&& 31)) &&& 1) = 0 := by
  intro h
  have h2 : hz_tb (((x ||| ((1 : Int32) <<< (nI 23 &&& 31))) >>> (nI 23 &&& 31)) &&& 1) 0 = hz_tb 0 0 := by rw [h]
  rw [hz_tband, hz_tbshr 23 (by omega) _ (by omega), if_pos (by omega), hz_tbor, show hz_tb ((1 : Int32) <<< (nI 23 &&& 31)) (23 + 0) = true by decide +kernel, show hz_tb 1 0 = true by decide +kernel, show hz_tb 0 0 = false by decide +kernel] at h2
  simp at h2
def hz_nn (v : Int × Int × Int) : Bool := hz_pp v || decide (v.1 = 0 ∧ v.2.1 = 0 ∧ v.2.2 = 0)
def hz_sb (v w : Int × Int × Int) : Int × Int × Int := (v.1 - w.1, v.2.1 - w.2.1, v.2.2 - w.2.2)
theorem hz_nnOk {A B C : Int} {v : Int × Int × Int} (hc : hz_cone A B C) (h : hz_nn v = true) : 0 ≤ hz_lin A B C v := by
  unfold hz_nn at h
  rcases (Bool.or_eq_true _ _ ▸ h : hz_pp v = true ∨ decide (v.1 = 0 ∧ v.2.1 = 0 ∧ v.2.2 = 0) = true) with h | h
  · have := hz_ppOk hc h
    omega
  · have h3 := of_decide_eq_true h
    unfold hz_lin
    rw [h3.1, h3.2.1, h3.2.2]
    simp
theorem hz_sbOk {A B C : Int} {v w : Int × Int × Int} : hz_lin A B C (hz_sb v w) = hz_lin A B C v - hz_lin A B C w := by
  unfold hz_lin hz_sb
  grind
def hz_frE (a b : Nat) : Nat := if a = 0 ∧ b = 23 then 21 else if a = 0 ∧ b = 20 then 0 else if a = 20 ∧ b = 23 then 0 else if a = 23 ∧ b = 0 then 4 else if a = 23 ∧ b = 3 then 0 else if a = 3 ∧ b = 0 then 0 else 99
theorem hz_frE0 : ∀ i, i < 24 → hz_nn (hz_co 0 20 i) = true ∧ hz_nn (hz_co 20 23 i) = true ∧ hz_nn (hz_co 23 3 i) = true ∧ hz_nn (hz_co 3 0 i) = true := by decide +kernel
theorem hz_frE1 : hz_pp (hz_ng (hz_co 0 23 20)) = true ∧ ∀ i, i < 24 → i ≠ 20 → hz_pp (hz_sb (hz_co 0 23 i) (hz_co 0 23 20)) = true := by decide +kernel
theorem hz_frE2 : hz_pp (hz_ng (hz_co 23 0 3)) = true ∧ ∀ i, i < 24 → i ≠ 3 → hz_pp (hz_sb (hz_co 23 0 i) (hz_co 23 0 3)) = true := by decide +kernel
theorem hz_frEOk {bx by' sx sy : Nat} (hp : hz_par bx by' sx sy) : hz_fr 24 (hz_EX bx sx hz_vx) (hz_EX by' sy hz_vy) hz_frE := by
  have hc := hz_coneE hp
  have N : ∀ a b m : Nat, a < 24 → b < 24 → m < 24 → hz_pp (hz_ng (hz_co a b m)) = true → (∀ i, i < 24 → i ≠ m → hz_pp (hz_sb (hz_co a b i) (hz_co a b m)) = true) → a < 24 ∧ b < 24 ∧ m < 24 ∧ hz_cr (hz_EX bx sx hz_vx) (hz_EX by' sy hz_vy) a b m < 0 ∧ ∀ i, i < 24 → i ≠ m → hz_cr (hz_EX bx sx hz_vx) (hz_EX by' sy hz_vy) a b m < hz_cr (hz_EX bx sx hz_vx) (hz_EX by' sy hz_vy) a b i := by
    intro a b m ha hb hm h1 h2
    refine ⟨ha, hb, hm, ?_, fun i hi hne => ?_⟩
    · have := hz_ppOk hc h1
      rw [hz_linN] at this
      rw [hz_crE]
      omega
    · have := hz_ppOk hc (h2 i hi hne)
      rw [hz_sbOk] at this
      rw [hz_crE, hz_crE]
      omega
  intro a b
  unfold hz_frE
  by_cases c1 : a = 0 ∧ b = 23
  · rw [if_pos c1]
    obtain ⟨rfl, rfl⟩ := c1
    refine ⟨fun h => absurd h (by decide), fun m _ h => ?_⟩
    have em : m = 20 := by omega
    subst em
    exact N 0 23 20 (by omega) (by omega) (by omega) hz_frE1.1 hz_frE1.2
  rw [if_neg c1]
  by_cases c2 : a = 0 ∧ b = 20
  · rw [if_pos c2]
    obtain ⟨rfl, rfl⟩ := c2
    exact ⟨fun _ => ⟨by omega, by omega, fun i hi => by rw [hz_crE]; exact hz_nnOk hc (hz_frE0 i hi).1⟩, fun m _ h => absurd h (by omega)⟩
  rw [if_neg c2]
  by_cases c3 : a = 20 ∧ b = 23
  · rw [if_pos c3]
    obtain ⟨rfl, rfl⟩ := c3
    exact ⟨fun _ => ⟨by omega, by omega, fun i hi => by rw [hz_crE]; exact hz_nnOk hc (hz_frE0 i hi).2.1⟩, fun m _ h => absurd h (by omega)⟩
  rw [if_neg c3]
  by_cases c4 : a = 23 ∧ b = 0
  · rw [if_pos c4]
    obtain ⟨rfl, rfl⟩ := c4
    refine ⟨fun h => absurd h (by decide), fun m _ h => ?_⟩
    have em : m = 3 := by omega
    subst em
    exact N 23 0 3 (by omega) (by omega) (by omega) hz_frE2.1 hz_frE2.2
  rw [if_neg c4]
  by_cases c5 : a = 23 ∧ b = 3
  · rw [if_pos c5]
    obtain ⟨rfl, rfl⟩ := c5
    exact ⟨fun _ => ⟨by omega, by omega, fun i hi => by rw [hz_crE]; exact hz_nnOk hc (hz_frE0 i hi).2.2.1⟩, fun m _ h => absurd h (by omega)⟩
  rw [if_neg c5]
  by_cases c6 : a = 3 ∧ b = 0
  · rw [if_pos c6]
    obtain ⟨rfl, rfl⟩ := c6
    exact ⟨fun _ => ⟨by omega, by omega, fun i hi => by rw [hz_crE]; exact hz_nnOk hc (hz_frE0 i hi).2.2.2⟩, fun m _ h => absurd h (by omega)⟩
  rw [if_neg c6]
  exact ⟨fun h => absurd h (by decide), fun m _ h => absurd h (by omega)⟩
theorem hz_f3 : hz_toL (hz_part hz_frE 24) = some [0, 20, 23, 3] := by decide +kernel
theorem hz_engE {bx by' sx sy : Nat} (hp : hz_par bx by' sx sy) : ∀ e, e < 6 → hz_eng 24 (hz_EX bx sx hz_vx) (hz_EX by' sy hz_vy) e 4 (hz_h [0, 20, 23, 3]) := by
  have K0 : hz_kok ((sx : Int) * (63 - (by' : Int))) ((sy : Int) * (63 - (bx : Int))) ((sx : Int) * (sy : Int)) [] := trivial
  exact hz_mem6 (hz_eng0 (by omega) (hz_sgEOk hp K0) (hz_sqEOk hp) hz_f0) (hz_tree1 (hz_coneE hp) (fun l hk h => hz_eng1 (by omega) (by omega) (hz_sgEOk hp hk) (hz_sqEOk hp) h)) (hz_eng2 (by omega) (by omega) (hz_sgEOk hp K0) hz_f2) (hz_eng3 (by omega) (by omega) (hz_frEOk hp) hz_f3) (hz_eng4 (by omega) (by omega) (hz_sgEOk hp K0) hz_f4) (hz_tree5 (hz_coneE hp) (fun l hk h => hz_eng5 (by omega) (by omega) (hz_sgEOk hp hk) (hz_sqEOk hp) h))
theorem hz_v23x {k : Nat} (h : k < 23) : hz_vx k = k / 4 := if_neg (by omega)
theorem hz_v23y {k : Nat} (h : k < 23) : hz_vy k = k % 4 := if_neg (by omega)
theorem hz_EXc (b s : Nat) (g : Nat → Nat) : hz_EX b s g = fun j => ((if j = 23 then 63 else b + s * g j : Nat) : Int) := by
  funext j
  unfold hz_EX
  by_cases h : j = 23
  · rw [if_pos h, if_pos h]
    rfl
  · rw [if_neg h, if_neg h]
theorem hz_cfgE {bx by' sx sy : Nat} {a1 : Nat → Int32} (hp : hz_par bx by' sx sy) (ha : hz_pic bx by' sx sy 23 a1) (hf : a1 23 = nI 4095) : hz_cfg (nI (2 ^ 24 - 1)) a1 24 (hz_EX bx sx hz_vx) (hz_EX by' sy hz_vy) := by
  rw [hz_EXc, hz_EXc]
  refine hz_gather (fun k => k) (fun j => j) (fun k => if k = 23 then 63 else bx + sx * hz_vx k) (fun k => if k = 23 then 63 else by' + sy * hz_vy k) (fun _ => true)
    (fun k hk => ⟨fun z => absurd ((hz_bit 24 (by omega) k hk).mp z) (by omega), fun z => absurd z (by decide)⟩) rfl (fun k _ _ => ⟨rfl, rfl⟩) (fun k _ z => absurd z (by decide)) (fun k hk _ => ?_) (fun j k hjk hk _ _ => ?_)
  · by_cases e : k = 23
    · subst e
      refine ⟨hf, ?_, ?_⟩
      · show (63 : Nat) < 64
        omega
      · show (63 : Nat) < 64
        omega
    · have b := hz_bnd hp hk
      show a1 k = nI ((if k = 23 then 63 else bx + sx * hz_vx k) + 64 * (if k = 23 then 63 else by' + sy * hz_vy k)) ∧ (if k = 23 then 63 else bx + sx * hz_vx k) < 64 ∧ (if k = 23 then 63 else by' + sy * hz_vy k) < 64
      rw [if_neg e, if_neg e, hz_v23x (show k < 23 by omega), hz_v23y (show k < 23 by omega)]
      exact ⟨ha k (by omega), by omega, by omega⟩
  · show (if j = 23 then 63 else bx + sx * hz_vx j) * 64 + (if j = 23 then 63 else by' + sy * hz_vy j) < (if k = 23 then 63 else bx + sx * hz_vx k) * 64 + (if k = 23 then 63 else by' + sy * hz_vy k)
    rw [if_neg (show ¬ j = 23 by omega), if_neg (show ¬ j = 23 by omega), hz_v23x (show j < 23 by omega), hz_v23y (show j < 23 by omega)]
    by_cases e : k = 23
    · rw [if_pos e, if_pos e]
      have b := hz_bnd hp (show j < 24 by omega)
      omega
    · rw [if_neg e, if_neg e, hz_v23x (show k < 23 by omega), hz_v23y (show k < 23 by omega)]
      exact hz_inc hp hjk hk
theorem hz_solE {bx by' sx sy : Nat} {a1 : Nat → Int32} (hp : hz_par bx by' sx sy) (ha : hz_pic bx by' sx sy 23 a1) (hf : a1 23 = nI 4095) (e : Nat) (he : e < 6) : hz_sol (nI (2 ^ 24 - 1)) a1 24 (hz_EX bx sx hz_vx) (hz_EX by' sy hz_vy) e 4 (hz_h [0, 20, 23, 3]) := hz_solve he (by omega) (by omega) (hz_cfgE hp ha hf) (hz_engE hp e he)
def hz_spE (l : List ((Int × Int × Int) × Nat)) (p a b : Nat) : Nat := hz_fs l (hz_co a b p)
def hz_btE (p a b : Nat) : Nat := if a < 23 ∧ b < 23 ∧ ¬ p = 23 then hz_gb hz_vx hz_vy (hz_vx p) (hz_vy p) a b else 2
theorem hz_wqE {bx by' sx sy p x y v : Nat} {l : List ((Int × Int × Int) × Nat)} (hp : hz_par bx by' sx sy) (hk : hz_kok ((sx : Int) * (63 - (by' : Int))) ((sy : Int) * (63 - (bx : Int))) ((sx : Int) * (sy : Int)) l) (x1 : x < 64) (y1 : y < 64) (ex : hz_EX bx sx hz_vx p = (x : Int)) (ey : hz_EX by' sy hz_vy p = (y : Int)) (hw : hz_wh (hz_spE l p) (hz_btE p) (hz_h [0, 20, 23, 3]) 4 = some v) : hz_wq 24 (hz_EX bx sx hz_vx) (hz_EX by' sy hz_vy) 4 (hz_h [0, 20, 23, 3]) x y v := by
  refine ⟨x1, y1, hz_spE l p, hz_btE p, ?_, ?_, hw⟩
  · intro a b _ _
    have e : hz_cp (hz_EX bx sx hz_vx) (hz_EX by' sy hz_vy) x y a b = hz_cr (hz_EX bx sx hz_vx) (hz_EX by' sy hz_vy) a b p := by
      unfold hz_cp hz_cr
      rw [ex, ey]
    rw [e, hz_crE]
    exact hz_fsOk (hz_coneE hp) hk (hz_co a b p)
  · intro a b _ _
    unfold hz_btE
    by_cases c : a < 23 ∧ b < 23 ∧ ¬ p = 23
    · rw [if_pos c]
      obtain ⟨c1, c2, c3⟩ := c
      have G := hz_gbOk (bx := bx) (by' := by') (n := 24) (p := hz_vx p) (q := hz_vy p) (gx := hz_vx) (gy := hz_vy) hp.2.2.1 hp.2.2.2.2.1 a b (by omega) (by omega)
      have F : ∀ (b s : Nat) (g : Nat → Nat) (j : Nat), ¬ j = 23 → hz_EX b s g j = hz_X b s g j := fun b s g j h => if_neg h
      have ex' : ((bx + sx * hz_vx p : Nat) : Int) = (x : Int) := (F bx sx hz_vx p c3).symm.trans ex
      have ey' : ((by' + sy * hz_vy p : Nat) : Int) = (y : Int) := (F by' sy hz_vy p c3).symm.trans ey
      have E : hz_al (hz_EX bx sx hz_vx) (hz_EX by' sy hz_vy) x y a b = hz_al (hz_X bx sx hz_vx) (hz_X by' sy hz_vy) ((bx + sx * hz_vx p : Nat) : Int) ((by' + sy * hz_vy p : Nat) : Int) a b := by
        unfold hz_al
        rw [ex', ey', F bx sx hz_vx a (by omega), F bx sx hz_vx b (by omega), F by' sy hz_vy a (by omega), F by' sy hz_vy b (by omega)]
      rw [E]
      exact G
    · rw [if_neg c]
      exact ⟨fun h => absurd h (by decide), fun h => absurd h (by decide)⟩
def hz_si (z : Int) : Nat := if z < 0 then 0 else if z = 0 then 1 else 2
theorem hz_siOk (z : Int) : hz_sgn (hz_si z) z ∧ hz_si z < 3 := by
  unfold hz_si hz_sgn
  by_cases h : z < 0
  · rw [if_pos h]
    exact ⟨Or.inl ⟨rfl, h⟩, by omega⟩
  · rw [if_neg h]
    by_cases h2 : z = 0
    · rw [if_pos h2]
      exact ⟨Or.inr (Or.inl ⟨rfl, h2⟩), by omega⟩
    · rw [if_neg h2]
      exact ⟨Or.inr (Or.inr ⟨rfl, by omega⟩), by omega⟩
theorem hz_kok1 {A B C : Int} {v : Int × Int × Int} {s : Nat} (h : hz_sgn s (hz_lin A B C v)) : hz_kok A B C [(v, s)] := ⟨h, trivial⟩
def hz_vE (k s : Nat) : Nat := (hz_wh (hz_spE [(hz_co 0 23 k, s)] k) (hz_btE k) (hz_h [0, 20, 23, 3]) 4).getD 0
theorem hz_whE : ∀ k, k < 23 → ∀ s, s < 3 → hz_wh (hz_spE [(hz_co 0 23 k, s)] k) (hz_btE k) (hz_h [0, 20, 23, 3]) 4 = some (hz_vE k s) ∧ hz_vE k s < 24 := by decide +kernel
theorem hz_whF : hz_wh (hz_spE [] 23) (hz_btE 23) (hz_h [0, 20, 23, 3]) 4 = some 1 := by decide +kernel
theorem hz_whH : ∀ s, s < 3 → hz_wh (hz_spE [(hz_co 0 23 24, s)] 24) (hz_btE 24) (hz_h [0, 20, 23, 3]) 4 = some 2 := by decide +kernel
theorem hz_wqF {bx by' sx sy : Nat} (hp : hz_par bx by' sx sy) : hz_wq 24 (hz_EX bx sx hz_vx) (hz_EX by' sy hz_vy) 4 (hz_h [0, 20, 23, 3]) 63 63 1 := hz_wqE (l := []) hp trivial (by omega) (by omega) rfl rfl hz_whF
theorem hz_wqH {bx by' sx sy : Nat} (hp : hz_par bx by' sx sy) : hz_wq 24 (hz_EX bx sx hz_vx) (hz_EX by' sy hz_vy) 4 (hz_h [0, 20, 23, 3]) (bx + sx * 5) (by' + sy * 3) 2 := by
  obtain ⟨k1, k2⟩ := hz_siOk (hz_lin ((sx : Int) * (63 - (by' : Int))) ((sy : Int) * (63 - (bx : Int))) ((sx : Int) * (sy : Int)) (hz_co 0 23 24))
  have b := hz_bnd hp (show 23 < 24 by omega)
  exact hz_wqE (p := 24) hp (hz_kok1 k1) (by omega) (by omega) rfl rfl (hz_whH _ k2)
theorem hz_boE {bx by' sx sy : Nat} {a1 : Nat → Int32} (hp : hz_par bx by' sx sy) (ha : hz_pic bx by' sx sy 23 a1) (hf : a1 23 = nI 4095) : ∃ b, hz_bo (nI (2 ^ 24 - 1)) a1 b ∧ ¬ ((b >>> (nI 23 &&& 31)) &&& 1) = 0 := by
  refine ⟨_, hz_border (h := hz_h [0, 20, 23, 3]) (fun k => if k = 23 then 1 else hz_vE k (hz_si (hz_lin ((sx : Int) * (63 - (by' : Int))) ((sy : Int) * (63 - (bx : Int))) ((sx : Int) * (sy : Int)) (hz_co 0 23 k)))) (fun _ => true) (by omega) (by omega) hz_hC (hz_solE hp ha hf 2 (by omega)) (fun k hk => ⟨fun z => absurd ((hz_bit 24 (by omega) k hk).mp z) (by omega), fun z => absurd z (by decide)⟩) (fun k hk _ => ?_), ?_⟩
  · by_cases e : k = 23
    · subst e
      exact ⟨63, 63, hf, hz_wqF hp, show 1 < 24 by omega⟩
    · have b := hz_bnd hp hk
      obtain ⟨k1, k2⟩ := hz_siOk (hz_lin ((sx : Int) * (63 - (by' : Int))) ((sy : Int) * (63 - (bx : Int))) ((sx : Int) * (sy : Int)) (hz_co 0 23 k))
      obtain ⟨w1, w2⟩ := hz_whE k (by omega) _ k2
      refine ⟨bx + sx * (k / 4), by' + sy * (k % 4), ha k (by omega), ?_, ?_⟩
      · show hz_wq _ _ _ _ _ _ _ (if k = 23 then 1 else hz_vE k _)
        rw [if_neg e]
        exact hz_wqE (p := k) hp (hz_kok1 k1) (by omega) (by omega) (hz_EXg (by omega)) (hz_EYg (by omega)) w1
      · show (if k = 23 then 1 else hz_vE k _) < 24
        rw [if_neg e]
        exact w2
  · show ¬ (((_ ||| ((1 : Int32) <<< (nI 23 &&& 31))) >>> (nI 23 &&& 31)) &&& 1) = 0
    exact hz_bit23 _
end
section
theorem hz_cornersX {post : Int32 → St2 → Prop} {pr ct sz ks wt : Int32} {a1 a2 a3 a4 a5 a6 a7 a8 a9 a10 a11 a12 a13 : Nat → Int32} (H : post (-10000) (pr, ct, sz, ks, wt, a1, a2, a3, a4, a5, a6, a7, a8, a9, a10, a11, a12, a13)) : wpX_corners post (pr, ct, sz, ks, wt, a1, a2, a3, a4, a5, a6, a7, a8, a9, a10, a11, a12, a13) 6 := by
  unfold wpX_corners wpX_isEngine
  exact br_f (by decide) (br_t (by decide) (br_t rfl H))
theorem hz_cornerX {post : Int32 → St2 → Prop} {pr ct sz ks wt : Int32} {a1 a2 a3 a4 a5 a6 a7 a8 a9 a10 a11 a12 a13 : Nat → Int32} (H : post (-10000) (pr, ct, sz, ks, wt, a1, a2, a3, a4, a5, a6, a7, a8, a9, a10, a11, a12, a13)) : wpX_corner post (pr, ct, sz, ks, wt, a1, a2, a3, a4, a5, a6, a7, a8, a9, a10, a11, a12, a13) (-1) 0 := by
  unfold wpX_corner wpX_isEngine
  exact br_t (by decide) (br_t rfl H)
theorem hz_areaX {post : Int32 → St2 → Prop} {pr ct sz ks wt : Int32} {a1 a2 a3 a4 a5 a6 a7 a8 a9 a10 a11 a12 a13 : Nat → Int32} (H : post (-10000) (pr, ct, sz, ks, wt, a1, a2, a3, a4, a5, a6, a7, a8, a9, a10, a11, a12, a13)) : wpX_area post (pr, ct, sz, ks, wt, a1, a2, a3, a4, a5, a6, a7, a8, a9, a10, a11, a12, a13) 6 := by
  unfold wpX_area wpX_isEngine
  exact br_f (by decide) (br_t (by decide) (br_t rfl H))
theorem hz_holdsX {post : Int32 → St2 → Prop} {pr ct sz ks wt : Int32} {a1 a2 a3 a4 a5 a6 a7 a8 a9 a10 a11 a12 a13 : Nat → Int32} (H : post (-10000) (pr, ct, sz, ks, wt, a1, a2, a3, a4, a5, a6, a7, a8, a9, a10, a11, a12, a13)) : wpX_holds post (pr, ct, sz, ks, wt, a1, a2, a3, a4, a5, a6, a7, a8, a9, a10, a11, a12, a13) 4096 := by
  unfold wpX_holds wpX_isPlace
  exact br_f (by decide) (br_t (by decide) (br_t rfl H))
theorem hz_tangentX {post : Int32 → St2 → Prop} {pr ct sz ks wt : Int32} {a1 a2 a3 a4 a5 a6 a7 a8 a9 a10 a11 a12 a13 : Nat → Int32} (H : post (-10000) (pr, ct, sz, ks, wt, a1, a2, a3, a4, a5, a6, a7, a8, a9, a10, a11, a12, a13)) : wpX_tangent post (pr, ct, sz, ks, wt, a1, a2, a3, a4, a5, a6, a7, a8, a9, a10, a11, a12, a13) (-1) := by
  unfold wpX_tangent wpX_isPlace
  exact br_t (by decide) (br_t rfl H)
theorem hz_tangent0 {post : Int32 → St2 → Prop} {ct sz ks wt : Int32} {a1 a2 a3 a4 a5 a6 a7 a8 a9 a10 a11 a12 a13 : Nat → Int32} (H : post (-10000) (0, ct, sz, ks, wt, a1, a2, a3, a4, a5, a6, a7, a8, a9, a10, a11, a12, a13)) : wpX_tangent post (0, ct, sz, ks, wt, a1, a2, a3, a4, a5, a6, a7, a8, a9, a10, a11, a12, a13) 5 := by
  unfold wpX_tangent wpX_isPlace
  exact br_f (by decide) (br_f (by decide) (br_f (by decide) (br_t rfl H)))
theorem hz_extremeX {post : Int32 → St2 → Prop} {pr ct sz ks wt : Int32} {a1 a2 a3 a4 a5 a6 a7 a8 a9 a10 a11 a12 a13 : Nat → Int32} (H : post (-10000) (pr, ct, sz, ks, wt, a1, a2, a3, a4, a5, a6, a7, a8, a9, a10, a11, a12, a13)) : wpX_extreme post (pr, ct, sz, ks, wt, a1, a2, a3, a4, a5, a6, a7, a8, a9, a10, a11, a12, a13) 65 0 := by
  unfold wpX_extreme
  exact br_c (fun _ => H) (fun _ => br_f (by decide) (br_t (by decide) H))
theorem hz_extreme0 {post : Int32 → St2 → Prop} {ct sz ks wt : Int32} {a1 a2 a3 a4 a5 a6 a7 a8 a9 a10 a11 a12 a13 : Nat → Int32} {p0 p1 : Int32} (H : post (-10000) (0, ct, sz, ks, wt, a1, a2, a3, a4, a5, a6, a7, a8, a9, a10, a11, a12, a13)) : wpX_extreme post (0, ct, sz, ks, wt, a1, a2, a3, a4, a5, a6, a7, a8, a9, a10, a11, a12, a13) p0 p1 := by
  unfold wpX_extreme
  exact br_t rfl H
theorem hz_addX {post : Int32 → St2 → Prop} {pr ct sz ks wt : Int32} {a1 a2 a3 a4 a5 a6 a7 a8 a9 a10 a11 a12 a13 : Nat → Int32} (H : post (-10000) (pr, ct, sz, ks, wt, a1, a2, a3, a4, a5, a6, a7, a8, a9, a10, a11, a12, a13)) : wpX_add post (pr, ct, sz, ks, wt, a1, a2, a3, a4, a5, a6, a7, a8, a9, a10, a11, a12, a13) 4096 := by
  unfold wpX_add wpX_isPlace
  exact br_f (by decide) (br_t (by decide) (br_t rfl H))
theorem hz_removeX {post : Int32 → St2 → Prop} {pr ct sz ks wt : Int32} {a1 a2 a3 a4 a5 a6 a7 a8 a9 a10 a11 a12 a13 : Nat → Int32} (H : post (-10000) (pr, ct, sz, ks, wt, a1, a2, a3, a4, a5, a6, a7, a8, a9, a10, a11, a12, a13)) : wpX_remove post (pr, ct, sz, ks, wt, a1, a2, a3, a4, a5, a6, a7, a8, a9, a10, a11, a12, a13) 24 := by
  unfold wpX_remove wpX_has
  exact br_f (by decide) (br_t (by decide) (br_t rfl H))
theorem hz_agreeX {post : Int32 → St2 → Prop} {pr ct sz ks wt : Int32} {a1 a2 a3 a4 a5 a6 a7 a8 a9 a10 a11 a12 a13 : Nat → Int32} (H : post 0 (pr, ct, sz, ks, wt, a1, a2, a3, a4, a5, a6, a7, a8, a9, a10, a11, a12, a13)) : wpX_agree post (pr, ct, sz, ks, wt, a1, a2, a3, a4, a5, a6, a7, a8, a9, a10, a11, a12, a13) 0 6 := by
  unfold wpX_agree wpX_isEngine
  exact br_f (by decide) (br_f (by decide) (br_f (by decide) (br_f (by decide) (br_t (by decide) (br_t rfl H)))))
theorem hz_945 {post : Int32 → St0 → Prop} {mc ms kc kd : Nat} {ct sz ks wt : Int32} {a1 a2 a3 a4 a5 a6 a7 a8 a9 a10 a11 a12 a13 : Nat → Int32} {bx by' sx sy e f : Nat} (hp : hz_par bx by' sx sy) (ha : hz_pic bx by' sx sy 23 a1) (hfar : a1 23 = nI 4095) (he : e < 6) (hf : f < 6) (H : post 1 ()) : wL_lawOf_945 post mc ms (nI e) (nI f) 1 (nI ((bx + sx * 5) + 64 * (by' + sy * 3))) 23 1 kc kd (nI (2 ^ 24 - 1)) ct sz ks wt a1 a2 a3 a4 a5 a6 a7 a8 a9 a10 a11 a12 a13 := by
  unfold wL_lawOf_945
  refine br_f (by decide) (br_t rfl (br_f (by decide) ?_))
  refine hz_corners he (hz_solE hp ha hfar e he) rfl (fun ct sz ks wt a2 a3 a4 a5 a6 a7 a8 a9 a10 a11 a12 a13 => br_t rfl ?_)
  refine hz_cornerI (i := 2) hf (by omega) (by omega) (hz_solE hp ha hfar f hf) (by omega) (by decide) rfl rfl (fun ct sz ks wt a2 a3 a4 a5 a6 a7 a8 a9 a10 a11 a12 a13 => br_t (show hz_I (63 + 64 * 63) = 4095 by decide) ?_)
  refine hz_holds (by omega) (by omega) hz_hC (hz_solE hp ha hfar 1 (by omega)) (hz_wqH hp) rfl (fun ct sz ks wt a2 a3 a4 a5 a6 a7 a8 a9 a10 a11 a12 a13 => br_t rfl ?_)
  refine hz_tangentB (by omega) (by omega) hz_hC (by decide) (hz_solE hp ha hfar 2 (by omega)) (hz_wqF hp) (by omega) (by omega) rfl (fun ct sz ks wt a2 a3 a4 a5 a6 a7 a8 a9 a10 a11 a12 a13 => br_t rfl ?_)
  obtain ⟨b, hb1, hb2⟩ := hz_boE hp ha hfar
  refine hz_layer0 (k := 24) (j := 23) (by omega) (by omega) rfl hb1 hb2 (fun ct sz ks wt a2 a3 a4 a5 a6 a7 a8 a9 a10 a11 a12 a13 => br_t rfl ?_)
  refine hz_cornersX (br_t rfl ?_)
  refine hz_cornerX (br_t rfl ?_)
  refine hz_areaX (br_t rfl ?_)
  refine hz_holdsX (br_t rfl ?_)
  refine hz_tangentX (br_t rfl ?_)
  refine hz_extremeX (br_t rfl ?_)
  refine hz_addX (br_t rfl ?_)
  refine hz_removeX (br_t rfl ?_)
  exact hz_agreeX (br_t rfl H)
theorem hz_908 {post : Int32 → St0 → Prop} {mc ms kc kd : Nat} {ct sz ks wt : Int32} {a1 a2 a3 a4 a5 a6 a7 a8 a9 a10 a11 a12 a13 : Nat → Int32} {bx by' sx sy e f : Nat} (hp : hz_par bx by' sx sy) (ha : hz_pic bx by' sx sy 23 a1) (he : e < 6) (hf : f < 6) (H : post 1 ()) : wL_lawOf_908 post mc ms (nI bx) (nI by') (nI e) (nI f) (nI ((bx + sx * 5) + 64 * (by' + sy * 3))) (nI (5 * sx)) (nI (3 * sy)) 1 kc kd (nI (2 ^ 23 - 1)) ct sz ks wt a1 a2 a3 a4 a5 a6 a7 a8 a9 a10 a11 a12 a13 := by
  have hp' := hp
  obtain ⟨p1, p2, p3, p4, p5, p6⟩ := hp'
  unfold wL_lawOf_908
  refine hz_add_w (k := 23) (p := 4095) (by omega) (by omega) rfl ?_
  refine pk_le 63 (bx + 5 * sx) (fun z => absurd z (by omega)) (fun _ => pk_le 63 (by' + 3 * sy) (fun z => absurd z (by omega)) (fun _ => ?_) rfl (nI_add _ _)) rfl (nI_add _ _)
  refine hz_945 hp (fun k hk => ?_) pk_us he hf H
  rw [pk_un (by omega)]
  exact ha k hk
theorem hz_e2 : (2 : Int32) = hz_I 2 := by decide
theorem hz_e3 : (3 : Int32) = hz_I 3 := by decide
theorem hz_e64 : (64 : Int32) = hz_I 64 := by decide
theorem hz_SAD (bx sx by' sy : Nat) : hz_SA (hz_X bx sx hz_qx) (hz_X by' sy hz_qy) (hz_h [0, 20, 22, 19, 3]) (5 - 2) = ((sx * sy : Nat) : Int) * 29 := by
  show (0 : Int) + hz_cr (hz_X bx sx hz_qx) (hz_X by' sy hz_qy) 0 20 22 + hz_cr (hz_X bx sx hz_qx) (hz_X by' sy hz_qy) 0 22 19 + hz_cr (hz_X bx sx hz_qx) (hz_X by' sy hz_qy) 0 19 3 = _
  rw [hz_crG, hz_crG, hz_crG]
  show (0 : Int) + ((sx * sy : Nat) : Int) * 10 + ((sx * sy : Nat) : Int) * 7 + ((sx * sy : Nat) : Int) * 12 = _
  omega
def hz_dqD (a b : Nat) : Nat := if a = 20 ∧ b = 22 then 1 else 2
theorem hz_dqDOk {bx sx by' sy : Nat} (h2 : 0 < sy) : hz_dq 23 (hz_X bx sx hz_qx) (hz_X by' sy hz_qy) (bx + sx * 5) (by' + sy * 3) hz_dqD := by
  intro a b _ _
  unfold hz_dqD
  by_cases c : a = 20 ∧ b = 22
  · rw [if_pos c]
    obtain ⟨rfl, rfl⟩ := c
    refine ⟨fun h => absurd h (by decide), fun _ => ?_⟩
    have e1 : hz_D (hz_X bx sx hz_qx) (hz_X by' sy hz_qy) ((bx + sx * 5 : Nat) : Int) ((by' + sy * 3 : Nat) : Int) 22 = (sy : Int) * sy := by
      show (((bx + sx * 5 : Nat) : Int) - ((bx + sx * 5 : Nat) : Int)) * (((bx + sx * 5 : Nat) : Int) - ((bx + sx * 5 : Nat) : Int)) + (((by' + sy * 2 : Nat) : Int) - ((by' + sy * 3 : Nat) : Int)) * (((by' + sy * 2 : Nat) : Int) - ((by' + sy * 3 : Nat) : Int)) = _
      simp only [Int.natCast_add, Int.natCast_mul]
      grind
    have e2 : hz_D (hz_X bx sx hz_qx) (hz_X by' sy hz_qy) ((bx + sx * 5 : Nat) : Int) ((by' + sy * 3 : Nat) : Int) 20 = 9 * ((sy : Int) * sy) := by
      show (((bx + sx * 5 : Nat) : Int) - ((bx + sx * 5 : Nat) : Int)) * (((bx + sx * 5 : Nat) : Int) - ((bx + sx * 5 : Nat) : Int)) + (((by' + sy * 0 : Nat) : Int) - ((by' + sy * 3 : Nat) : Int)) * (((by' + sy * 0 : Nat) : Int) - ((by' + sy * 3 : Nat) : Int)) = _
      simp only [Int.natCast_add, Int.natCast_mul]
      grind
    rw [e1, e2]
    have := Int.mul_pos (show (0 : Int) < sy by omega) (show (0 : Int) < sy by omega)
    omega
  · rw [if_neg c]
    exact ⟨fun h => absurd h (by decide), fun h => absurd h (by decide)⟩
theorem hz_tgD : hz_tg (hz_gp hz_qx hz_qy 5 3) hz_dqD (hz_h [0, 20, 22, 19, 3]) 5 49 0 1 = some 2 := by decide +kernel
theorem hz_D605 {post : Int32 → St0 → Prop} {mc ms kc kd N : Nat} {ct sz ks wt : Int32} {a1 a2 a3 a4 a5 a6 a7 a8 a9 a10 a11 a12 a13 : Nat → Int32} {bx by' sx sy e f : Nat} {x14 : Int32} (hp : hz_par bx by' sx sy) (ha : hz_pic bx by' sx sy 24 a1) (he : e < 6) (hf : f < 6) (H : post 1 ()) : wL_lawOf_605 post mc ms (nI sx) (nI sy) (nI bx) (nI by') (nI e) (nI f) 16357791 x14 (nI ((bx + sx * 5) + 64 * (by' + sy * 3))) (nI (bx + 64 * (by' + sy * 3))) (nI (5 * sx)) (nI (3 * sy)) kc kd (N + 1) 1 (nI 6) (nI (2 ^ 24 - 1)) ct sz ks wt a1 a2 a3 a4 a5 a6 a7 a8 a9 a10 a11 a12 a13 := by
  have ha3 : hz_pic bx by' sx sy 23 a1 := fun k hk => ha k (by omega)
  have hb := hz_bnd hp (show 23 < 24 by omega)
  have q1 := hp.2.2.1
  have q2 := hp.2.2.2.2.1
  have w0 : hz_wq 23 (hz_X bx sx hz_qx) (hz_X by' sy hz_qy) 5 (hz_h [0, 20, 22, 19, 3]) (bx + sx * 5) (by' + sy * 3) 0 := hz_wqG q1 q2 (by omega) (by omega) hz_whD2
  have t1 : hz_I (((bx + sx * 5 : Nat) : Int) + 64 * ((by' + sy * 2 : Nat) : Int)) = nI ((bx + sx * 5) + 64 * (by' + sy * 3)) - 64 * nI sy := by
    rw [hz_n, hz_n, hz_e64, hz_mul, hz_sub]
    congr 1
    omega
  refine br_t (by decide) ?_
  refine hz_remove ?_
  refine nm_e (br_f (by decide) (br_t (ha 23 (by omega)) ?_))
  refine hz_corners hf (hz_solD hp ha3 f hf) rfl (fun ct sz ks wt a2 a3 a4 a5 a6 a7 a8 a9 a10 a11 a12 a13 => br_t rfl ?_)
  refine hz_cornerI (i := 2) he (by omega) (by omega) (hz_solD hp ha3 e he) (by omega) (by decide) rfl rfl (fun ct sz ks wt a2 a3 a4 a5 a6 a7 a8 a9 a10 a11 a12 a13 => br_t t1 ?_)
  refine hz_cornerI (i := 3) he (by omega) (by omega) (hz_solD hp ha3 e he) (by omega) (by decide) rfl rfl (fun ct sz ks wt a2 a3 a4 a5 a6 a7 a8 a9 a10 a11 a12 a13 => br_t ?_ ?_)
  · show hz_I (((bx + sx * 4 : Nat) : Int) + 64 * ((by' + sy * 3 : Nat) : Int)) = nI ((bx + sx * 5) + 64 * (by' + sy * 3)) - nI sx
    rw [hz_n, hz_n, hz_sub]
    congr 1
    omega
  refine hz_cornerI (i := 4) hf (by omega) (by omega) (hz_solD hp ha3 f hf) (by omega) (by decide) rfl rfl (fun ct sz ks wt a2 a3 a4 a5 a6 a7 a8 a9 a10 a11 a12 a13 => br_t ?_ ?_)
  · show hz_I (((bx + sx * 0 : Nat) : Int) + 64 * ((by' + sy * 3 : Nat) : Int)) = nI (bx + 64 * (by' + sy * 3))
    rw [hz_n]
    exact congrArg hz_I (by omega)
  refine hz_area he (by omega) (by omega) hz_hD (hz_solD hp ha3 e he) rfl (fun ct sz ks wt a2 a3 a4 a5 a6 a7 a8 a9 a10 a11 a12 a13 => br_t ?_ ?_)
  · rw [hz_SAD, hz_n, hz_n, hz_n, hz_n, hz_e2]
    simp only [hz_mul, hz_sub]
    congr 1
    simp only [Int.natCast_mul]
    grind
  refine hz_holds (by omega) (by omega) hz_hD (hz_solD hp ha3 1 (by omega)) w0 rfl (fun ct sz ks wt a2 a3 a4 a5 a6 a7 a8 a9 a10 a11 a12 a13 => br_t rfl ?_)
  refine hz_tangent (by omega) (by omega) (by omega) hz_hD (by decide) (hz_solD hp ha3 2 (by omega)) w0 (hz_gpOk q1 q2) (hz_dqDOk q2) hz_tgD rfl (fun ct sz ks wt a2 a3 a4 a5 a6 a7 a8 a9 a10 a11 a12 a13 => br_t t1 ?_)
  refine hz_borderW (hz_boD hp ha3) (fun ct sz ks wt a2 a3 a4 a5 a6 a7 a8 a9 a10 a11 a12 a13 => br_t (by decide) ?_)
  exact hz_layerB (k := 23) (j := 23) (by omega) (by omega) (by omega) rfl (br_t rfl (hz_908 hp ha3 he hf H))
end
section
theorem hz_lb0 : ∀ k, k < 24 → hz_vC k = 1 → ¬ (((16357791 : Int32) >>> (nI k &&& 31)) &&& 1) = 0 := by decide +kernel
theorem hz_lb1 : ∀ k, k < 24 → hz_vC k = 2 → (((16357791 : Int32) >>> (nI k &&& 31)) &&& 1) = 0 ∧ ¬ (((419424 : Int32) >>> (nI k &&& 31)) &&& 1) = 0 := by decide +kernel
theorem hz_layC0 {post : Int32 → St2 → Prop} {ct sz ks wt : Int32} {a1 a2 a3 a4 a5 a6 a7 a8 a9 a10 a11 a12 a13 : Nat → Int32} {bx by' sx sy k : Nat} {p0 : Int32} (hp : hz_par bx by' sx sy) (ha : hz_pic bx by' sx sy 24 a1) (hk : k < 24) (hv : hz_vC k = 1) (e0 : p0 = nI k) (H : ∀ (ct sz ks wt : Int32) (a2 a3 a4 a5 a6 a7 a8 a9 a10 a11 a12 a13 : Nat → Int32), post 0 (nI (2 ^ 24 - 1), ct, sz, ks, wt, a1, a2, a3, a4, a5, a6, a7, a8, a9, a10, a11, a12, a13)) : wpX_layer post (nI (2 ^ 24 - 1), ct, sz, ks, wt, a1, a2, a3, a4, a5, a6, a7, a8, a9, a10, a11, a12, a13) p0 := hz_layer0 (k := 24) (by omega) hk e0 (hz_boC hp ha) (hz_lb0 k hk hv) H
theorem hz_layC1 {post : Int32 → St2 → Prop} {ct sz ks wt : Int32} {a1 a2 a3 a4 a5 a6 a7 a8 a9 a10 a11 a12 a13 : Nat → Int32} {bx by' sx sy k : Nat} {p0 : Int32} (hp : hz_par bx by' sx sy) (ha : hz_pic bx by' sx sy 24 a1) (hk : k < 24) (hv : hz_vC k = 2) (e0 : p0 = nI k) (H : ∀ (ct sz ks wt : Int32) (a2 a3 a4 a5 a6 a7 a8 a9 a10 a11 a12 a13 : Nat → Int32), post 1 (nI (2 ^ 24 - 1), ct, sz, ks, wt, a1, a2, a3, a4, a5, a6, a7, a8, a9, a10, a11, a12, a13)) : wpX_layer post (nI (2 ^ 24 - 1), ct, sz, ks, wt, a1, a2, a3, a4, a5, a6, a7, a8, a9, a10, a11, a12, a13) p0 := hz_layer1 (k := 24) (d := 419424) (by omega) hk e0 (hz_boC hp ha) (hz_lb1 k hk hv).1 (by decide +kernel) (hz_boI hp ha) (hz_lb1 k hk hv).2 H
theorem hz_v0 : ∀ i, i < 6 → hz_vC (4 * i) = 1 := by decide
theorem hz_v12 : ∀ i, i < 6 → (((if i < 3 then i else 5 - i) = 0 ∧ hz_vC (4 * i + 1) = 1 ∧ hz_vC (4 * i + 2) = 1) ∨ (1 ≤ (if i < 3 then i else 5 - i) ∧ hz_vC (4 * i + 1) = 2 ∧ hz_vC (4 * i + 2) = 2)) := by decide
theorem hz_whR : ∀ i, i < 6 → hz_wh (hz_gp hz_qx hz_qy i 1) (hz_gb hz_qx hz_qy i 1) (hz_h [0, 20, 23, 3]) 4 = some (hz_vC (4 * i + 1)) := by decide +kernel
theorem hz_n4 (i j : Nat) : (4 : Int32) * nI i + nI j = nI (4 * i + j) := by
  rw [show (4 : Int32) * nI i = nI (4 * i) from pk_mul 4 i, nI_add]
theorem hz_627 {post : Int32 → St0 → Prop} {mc ms kc kd : Nat} {J605 : Int32 → Int32 → Int32 → Int32 → Int32 → Int32 → Int32 → (Nat → Int32) → (Nat → Int32) → (Nat → Int32) → (Nat → Int32) → (Nat → Int32) → (Nat → Int32) → (Nat → Int32) → (Nat → Int32) → (Nat → Int32) → (Nat → Int32) → (Nat → Int32) → (Nat → Int32) → (Nat → Int32) → Prop} {ct sz ks wt : Int32} {a1 a2 a3 a4 a5 a6 a7 a8 a9 a10 a11 a12 a13 : Nat → Int32} {bx by' sx sy i c : Nat} {x10 x11 x13 x16 x17 x18 x19 : Int32} (hp : hz_par bx by' sx sy) (ha : hz_pic bx by' sx sy 24 a1) (hi : i < 6) (hc : c ≤ 5) (hv : (c = 0 ∧ hz_vC (4 * i + 1) = 1 ∧ hz_vC (4 * i + 2) = 1) ∨ (1 ≤ c ∧ hz_vC (4 * i + 1) = 2 ∧ hz_vC (4 * i + 2) = 2)) (H : ∀ (ct sz ks wt : Int32) (a2 a3 a4 a5 a6 a7 a8 a9 a10 a11 a12 a13 : Nat → Int32), J605 1 (nI (i + 1)) (nI (2 ^ 24 - 1)) ct sz ks wt a1 a2 a3 a4 a5 a6 a7 a8 a9 a10 a11 a12 a13) : wL_lawOf_627 post mc ms J605 (nI sx) (nI sy) (nI bx) (nI by') x10 x11 1 x13 (nI (bx + 64 * by')) x16 x17 x18 x19 (nI i) (nI c) kc kd (nI (2 ^ 24 - 1)) ct sz ks wt a1 a2 a3 a4 a5 a6 a7 a8 a9 a10 a11 a12 a13 := by
  have hb := hz_bnd hp (show 4 * i + 1 < 24 by omega)
  rw [show (4 * i + 1) / 4 = i by omega, show (4 * i + 1) % 4 = 1 by omega] at hb
  have w : hz_wq 24 (hz_X bx sx hz_qx) (hz_X by' sy hz_qy) 4 (hz_h [0, 20, 23, 3]) (bx + sx * i) (by' + sy * 1) (hz_vC (4 * i + 1)) := hz_wqG hp.2.2.1 hp.2.2.2.2.1 (by omega) (by omega) (hz_whR i hi)
  have ep : nI (bx + 64 * by') + nI sx * nI i + 64 * nI sy = nI ((bx + sx * i) + 64 * (by' + sy * 1)) := by
    rw [pk_mul, nI_add, show (64 : Int32) * nI sy = nI (64 * sy) from pk_mul 64 sy, nI_add]
    congr 1
    omega
  have e0 : (4 : Int32) * nI i = nI (4 * i) := pk_mul 4 i
  unfold wL_lawOf_627
  refine br_f (by decide) (hz_layC0 hp ha (by omega) (hz_v0 i hi) e0 (fun ct sz ks wt a2 a3 a4 a5 a6 a7 a8 a9 a10 a11 a12 a13 => br_t rfl ?_))
  rcases hv with ⟨v1, v2, v3⟩ | ⟨v1, v2, v3⟩
  · subst v1
    refine hz_layC0 hp ha (by omega) v2 (hz_n4 i 1) (fun ct sz ks wt a2 a3 a4 a5 a6 a7 a8 a9 a10 a11 a12 a13 => br_f (by decide) ?_)
    unfold wL_lawOf_668
    refine br_t rfl (hz_layC0 hp ha (by omega) v3 (hz_n4 i 2) (fun ct sz ks wt a2 a3 a4 a5 a6 a7 a8 a9 a10 a11 a12 a13 => br_f (by decide) ?_))
    unfold wL_lawOf_693
    refine br_t rfl (hz_holds (by omega) (by omega) hz_hC (hz_solC hp ha 1 (by omega)) w ep (fun ct sz ks wt a2 a3 a4 a5 a6 a7 a8 a9 a10 a11 a12 a13 => br_f (by decide) ?_))
    unfold wL_lawOf_726
    exact br_t (by rw [v2]; rfl) (nm_r (nI_1 i) (H _ _ _ _ _ _ _ _ _ _ _ _ _ _ _ _))
  · have c1 : (1 : Int32) ≤ nI c := nI_le (a := 1) v1 (by omega)
    refine hz_layC1 hp ha (by omega) v2 (hz_n4 i 1) (fun ct sz ks wt a2 a3 a4 a5 a6 a7 a8 a9 a10 a11 a12 a13 => br_t c1 ?_)
    unfold wL_lawOf_668
    refine br_t rfl (hz_layC1 hp ha (by omega) v3 (hz_n4 i 2) (fun ct sz ks wt a2 a3 a4 a5 a6 a7 a8 a9 a10 a11 a12 a13 => br_t c1 ?_))
    unfold wL_lawOf_693
    refine br_t rfl (hz_holds (by omega) (by omega) hz_hC (hz_solC hp ha 1 (by omega)) w ep (fun ct sz ks wt a2 a3 a4 a5 a6 a7 a8 a9 a10 a11 a12 a13 => br_t c1 ?_))
    unfold wL_lawOf_726
    exact br_t (by rw [v2]; rfl) (nm_r (nI_1 i) (H _ _ _ _ _ _ _ _ _ _ _ _ _ _ _ _))
theorem hz_605 {post : Int32 → St0 → Prop} {mc ms kc kd : Nat} {a1 : Nat → Int32} {bx by' sx sy e f : Nat} (hp : hz_par bx by' sx sy) (ha : hz_pic bx by' sx sy 24 a1) (he : e < 6) (hf : f < 6) (H : post 1 ()) : ∀ N i, i ≤ 6 → 6 - i < N → ∀ (ct sz ks wt : Int32) (a2 a3 a4 a5 a6 a7 a8 a9 a10 a11 a12 a13 : Nat → Int32), wL_lawOf_605 post mc ms (nI sx) (nI sy) (nI bx) (nI by') (nI e) (nI f) 16357791 (nI (bx + 64 * by')) (nI ((bx + sx * 5) + 64 * (by' + sy * 3))) (nI (bx + 64 * (by' + sy * 3))) (nI (5 * sx)) (nI (3 * sy)) kc kd N 1 (nI i) (nI (2 ^ 24 - 1)) ct sz ks wt a1 a2 a3 a4 a5 a6 a7 a8 a9 a10 a11 a12 a13 := by
  intro N
  induction N with
  | zero => intro i _ h; exact absurd h (by omega)
  | succ N ih =>
    intro i hi hN ct sz ks wt a2 a3 a4 a5 a6 a7 a8 a9 a10 a11 a12 a13
    by_cases z : i = 6
    · subst z
      exact hz_D605 hp ha he hf H
    · have hi6 : i < 6 := by omega
      refine pk_le 6 i (fun z => absurd z (by omega)) (fun _ => pk_le 3 i (fun z => ?_) (fun z => ?_))
      · rw [show (5 : Int32) - nI i = nI (5 - i) from pk_sub (show i ≤ 5 by omega)]
        have v := hz_v12 i hi6
        rw [if_neg (by omega)] at v
        exact hz_627 hp ha hi6 (by omega) v (ih (i + 1) (by omega) (by omega))
      · have v := hz_v12 i hi6
        rw [if_pos z] at v
        exact hz_627 hp ha hi6 (by omega) v (ih (i + 1) (by omega) (by omega))
theorem hz_SAC (bx sx by' sy : Nat) : hz_SA (hz_X bx sx hz_qx) (hz_X by' sy hz_qy) (hz_h [0, 20, 23, 3]) 2 = ((sx * sy : Nat) : Int) * 30 := by
  show (0 : Int) + hz_cr (hz_X bx sx hz_qx) (hz_X by' sy hz_qy) 0 20 23 + hz_cr (hz_X bx sx hz_qx) (hz_X by' sy hz_qy) 0 23 3 = _
  rw [hz_crG, hz_crG]
  show (0 : Int) + ((sx * sy : Nat) : Int) * 15 + ((sx * sy : Nat) : Int) * 15 = _
  omega
def hz_g1 (a b : Nat) : Nat := if a = 1 ∧ b = 0 then 1 else if a = 2 ∧ b = 1 then 0 else 2
def hz_g2 (a b : Nat) : Nat := if a = 1 ∧ b = 0 then 0 else if a = 3 ∧ b = 0 then 0 else 2
def hz_g3 (a b : Nat) : Nat := if a = 1 ∧ b = 0 then 0 else if a = 3 ∧ b = 0 then 1 else if a = 2 ∧ b = 3 then 0 else 2
theorem hz_fC (bx sx by' sy : Nat) (dx dy : Int) : hz_f (hz_X bx sx hz_qx) (hz_X by' sy hz_qy) (hz_h [0, 20, 23, 3]) dx dy 0 = dx * ((bx + sx * 0 : Nat) : Int) + dy * ((by' + sy * 0 : Nat) : Int) ∧ hz_f (hz_X bx sx hz_qx) (hz_X by' sy hz_qy) (hz_h [0, 20, 23, 3]) dx dy 1 = dx * ((bx + sx * 5 : Nat) : Int) + dy * ((by' + sy * 0 : Nat) : Int) ∧ hz_f (hz_X bx sx hz_qx) (hz_X by' sy hz_qy) (hz_h [0, 20, 23, 3]) dx dy 2 = dx * ((bx + sx * 5 : Nat) : Int) + dy * ((by' + sy * 3 : Nat) : Int) ∧ hz_f (hz_X bx sx hz_qx) (hz_X by' sy hz_qy) (hz_h [0, 20, 23, 3]) dx dy 3 = dx * ((bx + sx * 0 : Nat) : Int) + dy * ((by' + sy * 3 : Nat) : Int) := ⟨rfl, rfl, rfl, rfl⟩
theorem hz_lt4 {P : Nat → Prop} (h0 : P 0) (h1 : P 1) (h2 : P 2) (h3 : P 3) : ∀ i, i < 4 → P i := fun i hi => co_4 h0 h1 h2 h3 hi
theorem hz_gt1 {bx sx by' sy : Nat} (h : 0 < sx) : hz_gt 4 (hz_f (hz_X bx sx hz_qx) (hz_X by' sy hz_qy) (hz_h [0, 20, 23, 3]) 1 0) hz_g1 := by
  obtain ⟨f0, f1, f2, f3⟩ := hz_fC bx sx by' sy 1 0
  intro a b _ _
  unfold hz_g1
  by_cases c1 : a = 1 ∧ b = 0
  · rw [if_pos c1, c1.1, c1.2, f0, f1]
    exact ⟨fun h => absurd h (by decide), fun _ => by omega⟩
  rw [if_neg c1]
  by_cases c2 : a = 2 ∧ b = 1
  · rw [if_pos c2, c2.1, c2.2, f1, f2]
    exact ⟨fun _ => by omega, fun h => absurd h (by decide)⟩
  rw [if_neg c2]
  exact ⟨fun h => absurd h (by decide), fun h => absurd h (by decide)⟩
theorem hz_gt2 {bx sx by' sy : Nat} : hz_gt 4 (hz_f (hz_X bx sx hz_qx) (hz_X by' sy hz_qy) (hz_h [0, 20, 23, 3]) 0 (-1)) hz_g2 := by
  obtain ⟨f0, f1, f2, f3⟩ := hz_fC bx sx by' sy 0 (-1)
  intro a b _ _
  unfold hz_g2
  by_cases c1 : a = 1 ∧ b = 0
  · rw [if_pos c1, c1.1, c1.2, f0, f1]
    exact ⟨fun _ => by omega, fun h => absurd h (by decide)⟩
  rw [if_neg c1]
  by_cases c2 : a = 3 ∧ b = 0
  · rw [if_pos c2, c2.1, c2.2, f0, f3]
    exact ⟨fun _ => by omega, fun h => absurd h (by decide)⟩
  rw [if_neg c2]
  exact ⟨fun h => absurd h (by decide), fun h => absurd h (by decide)⟩
theorem hz_gt3 {bx sx by' sy : Nat} (h : 0 < sy) : hz_gt 4 (hz_f (hz_X bx sx hz_qx) (hz_X by' sy hz_qy) (hz_h [0, 20, 23, 3]) (-2) 3) hz_g3 := by
  obtain ⟨f0, f1, f2, f3⟩ := hz_fC bx sx by' sy (-2) 3
  intro a b _ _
  unfold hz_g3
  by_cases c1 : a = 1 ∧ b = 0
  · rw [if_pos c1, c1.1, c1.2, f0, f1]
    exact ⟨fun _ => by omega, fun h => absurd h (by decide)⟩
  rw [if_neg c1]
  by_cases c2 : a = 3 ∧ b = 0
  · rw [if_pos c2, c2.1, c2.2, f0, f3]
    exact ⟨fun h => absurd h (by decide), fun _ => by omega⟩
  rw [if_neg c2]
  by_cases c3 : a = 2 ∧ b = 3
  · rw [if_pos c3, c3.1, c3.2, f2, f3]
    exact ⟨fun _ => by omega, fun h => absurd h (by decide)⟩
  rw [if_neg c3]
  exact ⟨fun h => absurd h (by decide), fun h => absurd h (by decide)⟩
theorem hz_fB {bx by' sx sy : Nat} (hp : hz_par bx by' sx sy) {dx dy : Int} (d1 : dx = 1 ∧ dy = 0 ∨ dx = 0 ∧ dy = -1 ∨ dx = -2 ∧ dy = 3) : ∀ j, j < 4 → hz_B (hz_f (hz_X bx sx hz_qx) (hz_X by' sy hz_qy) (hz_h [0, 20, 23, 3]) dx dy j) := by
  obtain ⟨f0, f1, f2, f3⟩ := hz_fC bx sx by' sy dx dy
  obtain ⟨p1, p2, p3, p4, p5, p6⟩ := hp
  refine hz_lt4 ?_ ?_ ?_ ?_
  · rw [f0]; rcases d1 with ⟨rfl, rfl⟩ | ⟨rfl, rfl⟩ | ⟨rfl, rfl⟩ <;> constructor <;> omega
  · rw [f1]; rcases d1 with ⟨rfl, rfl⟩ | ⟨rfl, rfl⟩ | ⟨rfl, rfl⟩ <;> constructor <;> omega
  · rw [f2]; rcases d1 with ⟨rfl, rfl⟩ | ⟨rfl, rfl⟩ | ⟨rfl, rfl⟩ <;> constructor <;> omega
  · rw [f3]; rcases d1 with ⟨rfl, rfl⟩ | ⟨rfl, rfl⟩ | ⟨rfl, rfl⟩ <;> constructor <;> omega
theorem hz_exq1 : hz_2 (hz_g1 ((1 + 4) % 4) ((0 + 4) % 4)) (hz_ex hz_g1 4 (4 - 1) 49 0 0) (hz_ex hz_g1 4 1 49 0 0) = some 1 := by decide +kernel
theorem hz_exq2 : hz_2 (hz_g2 ((1 + 4) % 4) ((0 + 4) % 4)) (hz_ex hz_g2 4 (4 - 1) 49 0 0) (hz_ex hz_g2 4 1 49 0 0) = some 0 := by decide +kernel
theorem hz_exq3 : hz_2 (hz_g3 ((1 + 4) % 4) ((0 + 4) % 4)) (hz_ex hz_g3 4 (4 - 1) 49 0 0) (hz_ex hz_g3 4 1 49 0 0) = some 3 := by decide +kernel
theorem hz_farC {post : Int32 → St2 → Prop} {ct sz ks wt : Int32} {a1 a2 a3 a4 a5 a6 a7 a8 a9 a10 a11 a12 a13 : Nat → Int32} {bx by' sx sy : Nat} (hp : hz_par bx by' sx sy) (ha : hz_pic bx by' sx sy 24 a1) (H : ∀ (ct sz ks wt : Int32) (a2 a3 a4 a5 a6 a7 a8 a9 a10 a11 a12 a13 : Nat → Int32), post (hz_I ((sx * 5 * (sx * 5) + sy * 3 * (sy * 3) : Nat) : Int)) (nI (2 ^ 24 - 1), ct, sz, ks, wt, a1, a2, a3, a4, a5, a6, a7, a8, a9, a10, a11, a12, a13)) : wpX_farthest post (nI (2 ^ 24 - 1), ct, sz, ks, wt, a1, a2, a3, a4, a5, a6, a7, a8, a9, a10, a11, a12, a13) := by
  have hC : (0 : Int) < ((sx * sy : Nat) : Int) := by
    have := Nat.mul_pos hp.2.2.1 hp.2.2.2.2.1
    omega
  refine hz_farthest (by omega) hz_hC (hz_solC hp ha 4 (by omega)) (by omega) ?_ ?_ ?_ ?_ ?_ H
  · refine hz_lt4 ?_ ?_ ?_ ?_ <;> rw [hz_crG, hz_crG]
    · show ((sx * sy : Nat) : Int) * 0 < ((sx * sy : Nat) : Int) * 15
      omega
    · show ((sx * sy : Nat) : Int) * 0 < ((sx * sy : Nat) : Int) * 15
      omega
    · show ((sx * sy : Nat) : Int) * 0 < ((sx * sy : Nat) : Int) * 15
      omega
    · show ((sx * sy : Nat) : Int) * 0 < ((sx * sy : Nat) : Int) * 15
      omega
  · refine hz_lt4 ?_ ?_ ?_ ?_ <;> rw [hz_crG, hz_crG]
    · show ((sx * sy : Nat) : Int) * 15 ≤ ((sx * sy : Nat) : Int) * 15
      omega
    · show ((sx * sy : Nat) : Int) * 15 ≤ ((sx * sy : Nat) : Int) * 15
      omega
    · show ((sx * sy : Nat) : Int) * 15 ≤ ((sx * sy : Nat) : Int) * 15
      omega
    · show ((sx * sy : Nat) : Int) * 15 ≤ ((sx * sy : Nat) : Int) * 15
      omega
  · refine hz_lt4 ?_ ?_ ?_ ?_ <;> rw [hz_svG] <;> rfl
  · refine hz_lt4 ?_ ?_ ?_ ?_ <;> rw [hz_svG]
    · show ((sx * 0 * (sx * 0) + sy * 3 * (sy * 3) : Nat) : Int) ≤ _
      exact Int.ofNat_le.mpr (Nat.add_le_add_right (by rw [Nat.mul_zero, Nat.mul_zero]; exact Nat.zero_le _) _)
    · show ((sx * 5 * (sx * 5) + sy * 0 * (sy * 0) : Nat) : Int) ≤ _
      exact Int.ofNat_le.mpr (Nat.add_le_add_left (by rw [Nat.mul_zero, Nat.mul_zero]; exact Nat.zero_le _) _)
    · show ((sx * 0 * (sx * 0) + sy * 3 * (sy * 3) : Nat) : Int) ≤ _
      exact Int.ofNat_le.mpr (Nat.add_le_add_right (by rw [Nat.mul_zero, Nat.mul_zero]; exact Nat.zero_le _) _)
    · show ((sx * 5 * (sx * 5) + sy * 0 * (sy * 0) : Nat) : Int) ≤ _
      exact Int.ofNat_le.mpr (Nat.add_le_add_left (by rw [Nat.mul_zero, Nat.mul_zero]; exact Nat.zero_le _) _)
  · refine hz_lt4 ?_ ?_ ?_ ?_ <;> rw [hz_svG] <;> rfl
theorem hz_triC {post : Int32 → St2 → Prop} {ct sz ks wt : Int32} {a1 a2 a3 a4 a5 a6 a7 a8 a9 a10 a11 a12 a13 : Nat → Int32} {bx by' sx sy : Nat} (hp : hz_par bx by' sx sy) (ha : hz_pic bx by' sx sy 24 a1) (H : ∀ (ct sz ks wt : Int32) (a2 a3 a4 a5 a6 a7 a8 a9 a10 a11 a12 a13 : Nat → Int32), post (hz_I (((sx * sy : Nat) : Int) * 15)) (nI (2 ^ 24 - 1), ct, sz, ks, wt, a1, a2, a3, a4, a5, a6, a7, a8, a9, a10, a11, a12, a13)) : wpX_triangle post (nI (2 ^ 24 - 1), ct, sz, ks, wt, a1, a2, a3, a4, a5, a6, a7, a8, a9, a10, a11, a12, a13) := by
  refine hz_triangle (by omega) hz_hC (hz_solC hp ha 5 (by omega)) (by omega) ?_ ?_ ?_ ?_ H <;> rw [hz_crG] <;> rfl
def hz_gg (sx sy i : Nat) : Nat := if i % 2 = 0 then 5 * sx else 3 * sy
theorem hz_plC {post : Int32 → St2 → Prop} {ct sz ks wt : Int32} {a1 a2 a3 a4 a5 a6 a7 a8 a9 a10 a11 a12 a13 : Nat → Int32} {bx by' sx sy : Nat} (hp : hz_par bx by' sx sy) (ha : hz_pic bx by' sx sy 24 a1) (H : ∀ (ct sz ks wt : Int32) (a2 a3 a4 a5 a6 a7 a8 a9 a10 a11 a12 a13 : Nat → Int32), post (nI (sx * sy * 15 + 5 * sx + 3 * sy + 1)) (nI (2 ^ 24 - 1), ct, sz, ks, wt, a1, a2, a3, a4, a5, a6, a7, a8, a9, a10, a11, a12, a13)) : wpX_places post (nI (2 ^ 24 - 1), ct, sz, ks, wt, a1, a2, a3, a4, a5, a6, a7, a8, a9, a10, a11, a12, a13) := by
  have hp' := hp
  obtain ⟨p1, p2, p3, p4, p5, p6⟩ := hp'
  have hC : sx * sy ≤ 9 * 12 := Nat.mul_le_mul p4 p6
  refine hz_places (K := sx * sy * 15 + 5 * sx + 3 * sy) (hz_gg sx sy) (by omega) hz_hC (hz_solC hp ha 3 (by omega)) ?_ ?_ ?_ (by omega) H
  · refine hz_lt4 ?_ ?_ ?_ ?_
    · show 5 * sx ≤ 63
      omega
    · show 3 * sy ≤ 63
      omega
    · show 5 * sx ≤ 63
      omega
    · show 3 * sy ≤ 63
      omega
  · refine hz_lt4 ?_ ?_ ?_ ?_
    · exact Or.inl ⟨show ((by' + sy * 0 : Nat) : Int) - ((by' + sy * 0 : Nat) : Int) = 0 by omega, Or.inl (show ((bx + sx * 5 : Nat) : Int) - ((bx + sx * 0 : Nat) : Int) = ((5 * sx : Nat) : Int) by omega)⟩
    · exact Or.inr ⟨show ((bx + sx * 5 : Nat) : Int) - ((bx + sx * 5 : Nat) : Int) = 0 by omega, Or.inl (show ((by' + sy * 3 : Nat) : Int) - ((by' + sy * 0 : Nat) : Int) = ((3 * sy : Nat) : Int) by omega)⟩
    · exact Or.inl ⟨show ((by' + sy * 3 : Nat) : Int) - ((by' + sy * 3 : Nat) : Int) = 0 by omega, Or.inr (show ((bx + sx * 0 : Nat) : Int) - ((bx + sx * 5 : Nat) : Int) = -((5 * sx : Nat) : Int) by omega)⟩
    · exact Or.inr ⟨show ((bx + sx * 0 : Nat) : Int) - ((bx + sx * 0 : Nat) : Int) = 0 by omega, Or.inr (show ((by' + sy * 0 : Nat) : Int) - ((by' + sy * 3 : Nat) : Int) = -((3 * sy : Nat) : Int) by omega)⟩
  · rw [hz_SAC]
    show ((sx * sy : Nat) : Int) * 30 + ((5 * sx + 3 * sy + 5 * sx + 3 * sy : Nat) : Int) = 2 * ((sx * sy * 15 + 5 * sx + 3 * sy : Nat) : Int)
    omega
end
section
theorem hz_C161 {post : Int32 → St0 → Prop} {mc ms kc kd N : Nat} {ct sz ks wt : Int32} {a1 a2 a3 a4 a5 a6 a7 a8 a9 a10 a11 a12 a13 : Nat → Int32} {bx by' sx sy e f : Nat} (hp : hz_par bx by' sx sy) (ha : hz_pic bx by' sx sy 24 a1) (he : e < 6) (hf : f < 6) (H : post 1 ()) : wL_lawOf_161 post mc ms (nI sx) (nI sy) (nI bx) (nI by') (nI e) (nI f) kc kd (N + 1) 1 16357791 (nI 6) (nI (2 ^ 24 - 1)) ct sz ks wt a1 a2 a3 a4 a5 a6 a7 a8 a9 a10 a11 a12 a13 := by
  have S := hz_solC hp ha
  have q1 := hp.2.2.1
  have q2 := hp.2.2.2.2.1
  have m64 : (64 : Int32) * nI by' = nI (64 * by') := pk_mul 64 by'
  have m5 : (5 : Int32) * nI sx = nI (5 * sx) := pk_mul 5 sx
  have m3 : (3 : Int32) * nI sy = nI (3 * sy) := pk_mul 3 sy
  have m192 : (192 : Int32) * nI sy = nI (192 * sy) := pk_mul 192 sy
  refine br_t (by decide) (nm_r (e' := nI (bx + 64 * by')) (by rw [m64, nI_add]) (nm_r (e' := nI ((bx + sx * 5) + 64 * by')) (by rw [m5, nI_add]; congr 1; omega) (nm_r (e' := nI ((bx + sx * 5) + 64 * (by' + sy * 3))) (by rw [m192, nI_add]; congr 1; omega) (nm_r (e' := nI (bx + 64 * (by' + sy * 3))) (by rw [m192, nI_add]; congr 1; omega) (nm_r m5 (nm_r m3 (br_f (by decide) ?_)))))))
  refine hz_addF (p := 0) (by omega) rfl (br_t rfl ?_)
  refine br_t (show nI (2 ^ 24 - 1) = 16777215 by decide) ?_
  refine hz_corners he (S e he) rfl (fun ct sz ks wt a2 a3 a4 a5 a6 a7 a8 a9 a10 a11 a12 a13 => br_t rfl ?_)
  refine hz_cornerI (i := 0) hf (by omega) (by omega) (S f hf) (by omega) (by decide) rfl rfl (fun ct sz ks wt a2 a3 a4 a5 a6 a7 a8 a9 a10 a11 a12 a13 => br_t ?_ ?_)
  · show hz_I (((bx + sx * 0 : Nat) : Int) + 64 * ((by' + sy * 0 : Nat) : Int)) = nI (bx + 64 * by')
    rw [hz_n]
    exact congrArg hz_I (by omega)
  refine hz_cornerI (i := 1) he (by omega) (by omega) (S e he) (by omega) (by decide) rfl rfl (fun ct sz ks wt a2 a3 a4 a5 a6 a7 a8 a9 a10 a11 a12 a13 => br_t ?_ ?_)
  · show hz_I (((bx + sx * 5 : Nat) : Int) + 64 * ((by' + sy * 0 : Nat) : Int)) = nI ((bx + sx * 5) + 64 * by')
    rw [hz_n]
    exact congrArg hz_I (by omega)
  refine hz_cornerI (i := 2) hf (by omega) (by omega) (S f hf) (by omega) (by decide) rfl rfl (fun ct sz ks wt a2 a3 a4 a5 a6 a7 a8 a9 a10 a11 a12 a13 => br_t ?_ ?_)
  · show hz_I (((bx + sx * 5 : Nat) : Int) + 64 * ((by' + sy * 3 : Nat) : Int)) = nI ((bx + sx * 5) + 64 * (by' + sy * 3))
    rw [hz_n]
    exact congrArg hz_I (by omega)
  refine hz_cornerI (i := 3) he (by omega) (by omega) (S e he) (by omega) (by decide) rfl rfl (fun ct sz ks wt a2 a3 a4 a5 a6 a7 a8 a9 a10 a11 a12 a13 => br_t ?_ ?_)
  · show hz_I (((bx + sx * 0 : Nat) : Int) + 64 * ((by' + sy * 3 : Nat) : Int)) = nI (bx + 64 * (by' + sy * 3))
    rw [hz_n]
    exact congrArg hz_I (by omega)
  refine hz_cornerO (i := 4) he (by omega) (S e he) (by omega) (by omega) rfl rfl (fun ct sz ks wt a2 a3 a4 a5 a6 a7 a8 a9 a10 a11 a12 a13 => br_t rfl ?_)
  refine hz_area he (by omega) (by omega) hz_hC (S e he) rfl (fun ct sz ks wt a2 a3 a4 a5 a6 a7 a8 a9 a10 a11 a12 a13 => br_t ?_ ?_)
  · show hz_I (hz_SA (hz_X bx sx hz_qx) (hz_X by' sy hz_qy) (hz_h [0, 20, 23, 3]) 2) = 2 * nI (5 * sx) * nI (3 * sy)
    rw [hz_SAC, hz_n, hz_n, hz_e2]
    simp only [hz_mul]
    congr 1
    simp only [Int.natCast_mul]
    grind
  refine hz_area hf (by omega) (by omega) hz_hC (S f hf) rfl (fun ct sz ks wt a2 a3 a4 a5 a6 a7 a8 a9 a10 a11 a12 a13 => ?_)
  refine hz_area he (by omega) (by omega) hz_hC (S e he) rfl (fun ct sz ks wt a2 a3 a4 a5 a6 a7 a8 a9 a10 a11 a12 a13 => br_t rfl ?_)
  refine hz_borderW (hz_boC hp ha) (fun ct sz ks wt a2 a3 a4 a5 a6 a7 a8 a9 a10 a11 a12 a13 => br_t rfl ?_)
  refine hz_farC hp ha (fun ct sz ks wt a2 a3 a4 a5 a6 a7 a8 a9 a10 a11 a12 a13 => br_t ?_ ?_)
  · rw [hz_n, hz_n]
    simp only [hz_mul, hz_add]
    congr 1
    simp only [Int.natCast_mul, Int.natCast_add]
    grind
  refine hz_triC hp ha (fun ct sz ks wt a2 a3 a4 a5 a6 a7 a8 a9 a10 a11 a12 a13 => br_t ?_ ?_)
  · rw [hz_n, hz_n]
    simp only [hz_mul]
    congr 1
    simp only [Int.natCast_mul]
    grind
  refine hz_plC hp ha (fun ct sz ks wt a2 a3 a4 a5 a6 a7 a8 a9 a10 a11 a12 a13 => br_t ?_ ?_)
  · rw [nI_1, nI_1, pk_mul]
    congr 1
    grind
  refine hz_extreme (dx := 1) (dy := 0) (by omega) (by omega) (by omega) hz_hC (by decide) (by omega) (by omega) (by omega) (by omega) (S 0 (by omega)) (hz_fB hp (Or.inl ⟨rfl, rfl⟩)) (hz_gt1 q1) hz_exq1 (by decide) (by decide) (fun ct sz ks wt a2 a3 a4 a5 a6 a7 a8 a9 a10 a11 a12 a13 => br_t ?_ ?_)
  · show hz_I ((1 : Int) * ((bx + sx * 5 : Nat) : Int) + 0 * ((by' + sy * 0 : Nat) : Int)) = nI bx + nI (5 * sx)
    rw [nI_add, hz_n]
    exact congrArg hz_I (by omega)
  refine hz_extreme (dx := 0) (dy := -1) (by omega) (by omega) (by omega) hz_hC (by decide) (by omega) (by omega) (by omega) (by omega) (S 0 (by omega)) (hz_fB hp (Or.inr (Or.inl ⟨rfl, rfl⟩))) hz_gt2 hz_exq2 (by decide) (by decide) (fun ct sz ks wt a2 a3 a4 a5 a6 a7 a8 a9 a10 a11 a12 a13 => br_t ?_ ?_)
  · show hz_I ((0 : Int) * ((bx + sx * 0 : Nat) : Int) + (-1) * ((by' + sy * 0 : Nat) : Int)) = -nI by'
    rw [hz_n, hz_neg]
    exact congrArg hz_I (by omega)
  refine hz_extreme (dx := -2) (dy := 3) (by omega) (by omega) (by omega) hz_hC (by decide) (by omega) (by omega) (by omega) (by omega) (S 0 (by omega)) (hz_fB hp (Or.inr (Or.inr ⟨rfl, rfl⟩))) (hz_gt3 q2) hz_exq3 (by decide) (by decide) (fun ct sz ks wt a2 a3 a4 a5 a6 a7 a8 a9 a10 a11 a12 a13 => br_t ?_ ?_)
  · show hz_I ((-2 : Int) * ((bx + sx * 0 : Nat) : Int) + 3 * ((by' + sy * 3 : Nat) : Int)) = (-2) * nI bx + 3 * (nI by' + nI (3 * sy))
    rw [nI_add, hz_n, hz_n, hz_e3, show (-2 : Int32) = hz_I (-2) by decide]
    simp only [hz_mul, hz_add]
    exact congrArg hz_I (by omega)
  refine hz_agree he hf (by omega) (S e he) (S f hf) rfl rfl (fun ct sz ks wt a2 a3 a4 a5 a6 a7 a8 a9 a10 a11 a12 a13 => br_f (by decide) ⟨7, ?_⟩)
  exact hz_605 hp ha he hf H 7 0 (by omega) (by omega) _ _ _ _ _ _ _ _ _ _ _ _ _ _ _ _
/-- the law's own border -/
def hz_bB : Nat → Int32
  | 0 => 0
  | k + 1 => bif hz_vC k == 1 then hz_bB k ||| ((1 : Int32) <<< (nI k &&& 31)) else hz_bB k
theorem hz_bB24 : hz_bB 24 = 16357791 := by decide +kernel
theorem hz_243 {post : Int32 → St0 → Prop} {mc ms kc kd : Nat} {J161 J171 : Int32 → Int32 → Int32 → Int32 → Int32 → Int32 → Int32 → Int32 → (Nat → Int32) → (Nat → Int32) → (Nat → Int32) → (Nat → Int32) → (Nat → Int32) → (Nat → Int32) → (Nat → Int32) → (Nat → Int32) → (Nat → Int32) → (Nat → Int32) → (Nat → Int32) → (Nat → Int32) → (Nat → Int32) → Prop} {pr ct sz ks wt : Int32} {a1 a2 a3 a4 a5 a6 a7 a8 a9 a10 a11 a12 a13 : Nat → Int32} {i j : Nat} {x6 x7 x8 x9 x10 x11 z0 : Int32} (H : J171 1 z0 (nI (j + 1)) pr ct sz ks wt a1 a2 a3 a4 a5 a6 a7 a8 a9 a10 a11 a12 a13) : wL_lawOf_243 post mc ms J161 J171 x6 x7 x8 x9 x10 x11 1 (nI i) (nI j) (nI (4 * i + j)) z0 kc kd pr ct sz ks wt a1 a2 a3 a4 a5 a6 a7 a8 a9 a10 a11 a12 a13 := by
  unfold wL_lawOf_243
  exact br_f (by decide) (br_t (hz_n4 i j).symm (nm_r (nI_1 j) H))
theorem hz_vC1 : ∀ i, i < 6 → ∀ j, j < 4 → (hz_vC (4 * i + j) = 1 ↔ (i = 0 ∨ i = 5 ∨ j = 0 ∨ j = 3)) := by decide
theorem hz_171 {post : Int32 → St0 → Prop} {mc ms kc kd : Nat} {J161 : Int32 → Int32 → Int32 → Int32 → Int32 → Int32 → Int32 → Int32 → (Nat → Int32) → (Nat → Int32) → (Nat → Int32) → (Nat → Int32) → (Nat → Int32) → (Nat → Int32) → (Nat → Int32) → (Nat → Int32) → (Nat → Int32) → (Nat → Int32) → (Nat → Int32) → (Nat → Int32) → (Nat → Int32) → Prop} {ct sz ks wt : Int32} {a1 a2 a3 a4 a5 a6 a7 a8 a9 a10 a11 a12 a13 : Nat → Int32} {bx by' sx sy i : Nat} {x10 x11 : Int32} (hp : hz_par bx by' sx sy) (hi : i < 6) (ha : hz_pic bx by' sx sy (4 * i) a1) (H : ∀ a1, hz_pic bx by' sx sy (4 * (i + 1)) a1 → J161 1 (hz_bB (4 * (i + 1))) (nI (i + 1)) (nI (2 ^ (4 * (i + 1)) - 1)) ct sz ks wt a1 a2 a3 a4 a5 a6 a7 a8 a9 a10 a11 a12 a13) : ∃ fu, wL_lawOf_171 post mc ms J161 (nI sx) (nI sy) (nI bx) (nI by') x10 x11 (nI i) kc kd fu 1 (hz_bB (4 * i)) 0 (nI (2 ^ (4 * i) - 1)) ct sz ks wt a1 a2 a3 a4 a5 a6 a7 a8 a9 a10 a11 a12 a13 := by
  refine pk_loop (fun N j t => wL_lawOf_171 post mc ms J161 (nI sx) (nI sy) (nI bx) (nI by') x10 x11 (nI i) kc kd N 1 (hz_bB (4 * i + j)) (nI j) (nI (2 ^ (4 * i + j) - 1)) ct sz ks wt t a2 a3 a4 a5 a6 a7 a8 a9 a10 a11 a12 a13) (fun j t => hz_pic bx by' sx sy (4 * i + j) t) 4 0 a1 (by omega) ha
    (fun N t h => pk_le 4 4 (fun _ => nm_r (nI_1 i) (H t h)) (fun z => absurd z (by omega)))
    (fun N j t hj h hw => pk_le 4 j (fun z => absurd z (by omega)) (fun _ => ?_))
  have b := hz_bnd hp (show 4 * i + j < 24 by omega)
  rw [show (4 * i + j) / 4 = i by omega, show (4 * i + j) % 4 = j by omega] at b
  have e0 : nI bx + nI sx * nI i + 64 * (nI by' + nI sy * nI j) = nI ((bx + sx * i) + 64 * (by' + sy * j)) := by
    rw [pk_mul, pk_mul, nI_add, nI_add, show (64 : Int32) * nI (by' + sy * j) = nI (64 * (by' + sy * j)) from pk_mul 64 _, nI_add]
  have hpic : hz_pic bx by' sx sy (4 * i + (j + 1)) (upd t (4 * i + j) (nI ((bx + sx * i) + 64 * (by' + sy * j)))) := by
    intro k hk
    by_cases ek : k = 4 * i + j
    · rw [ek, pk_us, show (4 * i + j) / 4 = i by omega, show (4 * i + j) % 4 = j by omega]
    · rw [pk_un ek]
      exact h k (by omega)
  have K := hw _ hpic
  have V := hz_vC1 i hi j hj
  refine hz_add_w (k := 4 * i + j) (by omega) (by omega) e0 ?_
  have T1 : hz_vC (4 * i + j) = 1 → wL_lawOf_226 post mc ms J161 (wL_lawOf_171 post mc ms J161 (nI sx) (nI sy) (nI bx) (nI by') x10 x11 (nI i) kc kd N) (nI sx) (nI sy) (nI bx) (nI by') x10 x11 1 (hz_bB (4 * i + j)) (nI i) (nI j) (nI (4 * i + j)) kc kd (nI (2 ^ (4 * i + j + 1) - 1)) ct sz ks wt (upd t (4 * i + j) (nI ((bx + sx * i) + 64 * (by' + sy * j)))) a2 a3 a4 a5 a6 a7 a8 a9 a10 a11 a12 a13 := by
    intro v
    unfold wL_lawOf_226
    refine hz_243 ?_
    have e : hz_bB (4 * i + (j + 1)) = hz_bB (4 * i + j) ||| ((1 : Int32) <<< ((4 * nI i + nI j) &&& 31)) := by
      rw [hz_n4]
      show (bif hz_vC (4 * i + j) == 1 then _ else _) = _
      rw [v]
      rfl
    rw [← e]
    exact K
  refine pk_eq i 0 (fun z => T1 (V.mpr (Or.inl z))) (fun z1 => pk_eq i 5 (fun z => T1 (V.mpr (Or.inr (Or.inl z)))) (fun z2 => pk_eq j 0 (fun z => T1 (V.mpr (Or.inr (Or.inr (Or.inl z))))) (fun z3 => pk_eq j 3 (fun z => T1 (V.mpr (Or.inr (Or.inr (Or.inr z))))) (fun z4 => hz_243 ?_))))
  have v : ¬ hz_vC (4 * i + j) = 1 := fun z => absurd (V.mp z) (by omega)
  have e : hz_bB (4 * i + (j + 1)) = hz_bB (4 * i + j) := by
    show (bif hz_vC (4 * i + j) == 1 then _ else _) = _
    rw [beq_eq_false_iff_ne.mpr v]
    rfl
  rw [← e]
  exact K
theorem hz_161 {post : Int32 → St0 → Prop} {mc ms kc kd : Nat} {ct sz ks wt : Int32} {a1 a2 a3 a4 a5 a6 a7 a8 a9 a10 a11 a12 a13 : Nat → Int32} {bx by' sx sy e f : Nat} (hp : hz_par bx by' sx sy) (he : e < 6) (hf : f < 6) (H : post 1 ()) : ∃ fu, wL_lawOf_161 post mc ms (nI sx) (nI sy) (nI bx) (nI by') (nI e) (nI f) kc kd fu 1 0 0 0 ct sz ks wt a1 a2 a3 a4 a5 a6 a7 a8 a9 a10 a11 a12 a13 := by
  refine pk_loop (fun N i t => wL_lawOf_161 post mc ms (nI sx) (nI sy) (nI bx) (nI by') (nI e) (nI f) kc kd N 1 (hz_bB (4 * i)) (nI i) (nI (2 ^ (4 * i) - 1)) ct sz ks wt t a2 a3 a4 a5 a6 a7 a8 a9 a10 a11 a12 a13) (fun i t => hz_pic bx by' sx sy (4 * i) t) 6 0 a1 (by omega) (fun k hk => absurd hk (by omega))
    (fun N t h => ?_)
    (fun N i t hi h hw => pk_le 6 i (fun z => absurd z (by omega)) (fun _ => hz_171 hp hi h (fun t' h' => hw t' h')))
  have := hz_C161 (mc := mc) (ms := ms) (kc := kc) (kd := kd) (N := N) (ct := ct) (sz := sz) (ks := ks) (wt := wt) (a2 := a2) (a3 := a3) (a4 := a4) (a5 := a5) (a6 := a6) (a7 := a7) (a8 := a8) (a9 := a9) (a10 := a10) (a11 := a11) (a12 := a12) (a13 := a13) hp h he hf H
  show wL_lawOf_161 post mc ms (nI sx) (nI sy) (nI bx) (nI by') (nI e) (nI f) kc kd (N + 1) 1 (hz_bB 24) (nI 6) (nI (2 ^ 24 - 1)) ct sz ks wt t a2 a3 a4 a5 a6 a7 a8 a9 a10 a11 a12 a13
  rw [hz_bB24]
  exact this
theorem hz_lawOf {post : Int32 → St0 → Prop} {p0 p1 p2 p3 p4 : Int32} (H : post 1 ()) : wpL_lawOf post 94 1504 () p0 p1 p2 p3 p4 := by
  obtain ⟨s, hs, es⟩ := pk_andE p0 (m := 65535) 16 (by decide)
  obtain ⟨t, ht, et⟩ := pk_andE p1 (m := 65535) 16 (by decide)
  obtain ⟨bx, hbx, ebx⟩ := pk_andE p2 (m := 15) 4 (by decide)
  obtain ⟨by', hby, eby⟩ := pk_andE p3 (m := 15) 4 (by decide)
  obtain ⟨w, hw, ew⟩ := pk_andE p4 (m := 65535) 16 (by decide)
  have hp : hz_par bx by' (1 + s % 9) (1 + t % 12) := ⟨by omega, by omega, by omega, by omega, by omega, by omega⟩
  have he : w % 6 < 6 := by omega
  have hf : 5 - w % 6 < 6 := by omega
  have x6 : (1 : Int32) + ((p0 &&& 65535) - (p0 &&& 65535) / 9 * 9) = nI (1 + s % 9) := by
    rw [es, show nI s - nI s / 9 * 9 = nI (s % 9) from pk_rem (d := 9) (by omega) (by decide) (by decide)]
    exact nI_add 1 _
  have x7 : (1 : Int32) + ((p1 &&& 65535) - (p1 &&& 65535) / 12 * 12) = nI (1 + t % 12) := by
    rw [et, show nI t - nI t / 12 * 12 = nI (t % 12) from pk_rem (d := 12) (by omega) (by decide) (by decide)]
    exact nI_add 1 _
  have x10 : (p4 &&& 65535) - (p4 &&& 65535) / 6 * 6 = nI (w % 6) := by
    rw [ew]
    exact pk_rem (d := 6) (by omega) (by decide) (by decide)
  have x11 : (5 : Int32) - nI (w % 6) = nI (5 - w % 6) := pk_sub (show w % 6 ≤ 5 by omega)
  refine ⟨by omega, by omega, 93, 1486, by omega, by omega, ?_⟩
  unfold wpX_init
  refine ⟨by omega, by omega, by omega, by omega, by omega, by omega, by omega, by omega, by omega, by omega, by omega, by omega, by omega, by omega, by omega, by omega, by omega, by omega, by omega, by omega, by omega, by omega, by omega, by omega, by omega, by omega, ?_⟩
  refine ⟨by decide, nm_r x6 ⟨by decide, nm_r x7 (nm_r ebx (nm_r eby ⟨by decide, nm_r x10 (nm_r x11 ?_)⟩))⟩⟩
  refine hz_corners he hz_sol0 rfl (fun ct sz ks wt a2 a3 a4 a5 a6 a7 a8 a9 a10 a11 a12 a13 => br_t rfl ?_)
  refine hz_area hf (by omega) (by omega) (fun j hj => absurd hj (by omega)) hz_sol0 rfl (fun ct sz ks wt a2 a3 a4 a5 a6 a7 a8 a9 a10 a11 a12 a13 => br_t (show hz_I 0 = 0 by decide) ?_)
  refine hz_borderW hz_bo0 (fun ct sz ks wt a2 a3 a4 a5 a6 a7 a8 a9 a10 a11 a12 a13 => br_t rfl ?_)
  refine hz_farthest0 hz_sol0 (fun ct sz ks wt a2 a3 a4 a5 a6 a7 a8 a9 a10 a11 a12 a13 => br_t rfl ?_)
  refine hz_extreme0 (br_t rfl ?_)
  refine hz_triangle0 hz_sol0 (fun ct sz ks wt a2 a3 a4 a5 a6 a7 a8 a9 a10 a11 a12 a13 => br_t rfl ?_)
  refine hz_places0 hz_sol0 (fun ct sz ks wt a2 a3 a4 a5 a6 a7 a8 a9 a10 a11 a12 a13 => br_t rfl ?_)
  refine hz_tangent0 (br_t rfl ?_)
  refine hz_holds (x := 5) (y := 0) (v := 0) (by omega) (by omega) (fun j hj => absurd hj (by omega)) hz_sol0 ⟨by omega, by omega, (fun _ _ => 3), (fun _ _ => 3), fun a b ha => absurd ha (by omega), fun a b ha => absurd ha (by omega), rfl⟩ rfl (fun ct sz ks wt a2 a3 a4 a5 a6 a7 a8 a9 a10 a11 a12 a13 => br_t rfl ?_)
  exact hz_161 hp he hf H
theorem hz_cell {post : Int32 → Prop} {L k : Nat} {xs : Nat → Int32} {p1 : Int32} (hL : L ≤ 5) (hk : k < 5) (e : p1 = nI k) (H : ∀ x, post x) : wpL_cellAt post L xs () p1 := by
  subst e
  unfold wpL_cellAt
  exact pk_le L k (fun _ => H _) (fun z => ⟨pk_in k L z, H _⟩)
theorem i_vc (xs : Nat → Int32) (L : Nat) (hL : L ≤ 5) : wpL_law (fun r => r = 1) L xs := by
  unfold wpL_law
  exact hz_cell (k := 0) hL (by omega) rfl (fun _ => hz_cell (k := 1) hL (by omega) rfl (fun _ => hz_cell (k := 2) hL (by omega) rfl (fun _ => hz_cell (k := 3) hL (by omega) rfl (fun _ => hz_cell (k := 4) hL (by omega) rfl (fun _ => ⟨94, 1504, by omega, by omega, hz_lawOf rfl⟩)))))
end
