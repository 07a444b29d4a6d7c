section
/-! ===== bits of an Int32 (rows of the kit's BITS.to-paste, renamed), counts ===== -/
def cg_bt (x : Int32) (i : Nat) : Bool := x.toBitVec.getLsbD i
theorem cg_ext {x y : Int32} (h : ∀ i, i < 32 → cg_bt x i = cg_bt y i) : x = y := Int32.toBitVec_inj.mp (BitVec.eq_of_getLsbD_eq (fun i hi => h i hi))
theorem cg_or (x y : Int32) (i : Nat) : cg_bt (x ||| y) i = (cg_bt x i || cg_bt y i) := by unfold cg_bt; rw [Int32.toBitVec_or, BitVec.getLsbD_or]
theorem cg_and (x y : Int32) (i : Nat) : cg_bt (x &&& y) i = (cg_bt x i && cg_bt y i) := by unfold cg_bt; rw [Int32.toBitVec_and, BitVec.getLsbD_and]
theorem cg_xor (x y : Int32) (i : Nat) : cg_bt (x ^^^ y) i = (cg_bt x i ^^ cg_bt y i) := by unfold cg_bt; rw [Int32.toBitVec_xor, BitVec.getLsbD_xor]
theorem cg_m1 : ∀ i, i < 32 → cg_bt (-1) i = true := by decide +kernel
theorem cg_0 (i : Nat) : cg_bt 0 i = false := BitVec.getLsbD_zero
theorem cg_sl : ∀ n, n < 32 → ((nI n &&& 31).toBitVec.smod 32).toNat = n := by decide +kernel
theorem cg_sshr (n : Nat) (hn : n < 32) (x : Int32) {i : Nat} (hi : i < 32) : cg_bt (x >>> (nI n &&& 31)) i = if n + i < 32 then cg_bt x (n + i) else cg_bt x 31 := by
  unfold cg_bt
  rw [Int32.toBitVec_shiftRight]
  show (x.toBitVec.sshiftRight ((nI n &&& 31).toBitVec.smod 32).toNat).getLsbD i = _
  rw [cg_sl n hn, BitVec.getLsbD_sshiftRight, BitVec.msb_eq_getLsbD_last]
  simp [hi]
theorem cg_not (x : Int32) {i : Nat} (hi : i < 32) : cg_bt (x ^^^ (-1)) i = !cg_bt x i := by
  rw [cg_xor, cg_m1 i hi]
  cases cg_bt x i <;> rfl
theorem cg_b1 : ∀ i, i < 32 → cg_bt 1 i = decide (i = 0) := by decide +kernel
theorem cg_one : ∀ i, i < 31 → ∀ j, j < 32 → cg_bt ((1 : Int32) <<< (nI i &&& 31)) j = decide (j = i) := by decide +kernel
theorem cg_full : ∀ n, n < 10 → ∀ j, j < 32 → cg_bt (((1 : Int32) <<< (nI n &&& 31)) - 1) j = decide (j < n) := by decide +kernel
theorem cg_tst {x : Int32} {i : Nat} (hi : i < 31) : ((x >>> (nI i &&& 31)) &&& 1) = 0 ↔ cg_bt x i = false := by
  constructor
  · intro h
    have e : cg_bt ((x >>> (nI i &&& 31)) &&& 1) 0 = cg_bt 0 0 := by rw [h]
    rw [cg_and, cg_sshr i (by omega) x (by omega), if_pos (by omega), cg_0, cg_b1 0 (by omega)] at e
    simpa using e
  · intro h
    refine cg_ext (fun j hj => ?_)
    rw [cg_and, cg_0, cg_b1 j hj]
    by_cases e : j = 0
    · subst e
      rw [cg_sshr i (by omega) x (by omega), if_pos (by omega)]
      simp [h]
    · simp [e]
/-- a bit is asked for: the two roads -/
theorem cg_bit {x : Int32} {A B : Prop} (i : Nat) (f : cg_bt x i = false → A) (g : cg_bt x i = true → B) (hi : i < 31 := by omega) : (((x >>> (nI i &&& 31)) &&& 1) = 0 → A) ∧ (¬ ((x >>> (nI i &&& 31)) &&& 1) = 0 → B) := by
  rw [cg_tst hi]
  refine ⟨f, fun h => g ?_⟩
  cases e : cg_bt x i
  · exact absurd e h
  · rfl
theorem cg_tf {b : Bool} (h : ¬ b = true) : b = false := by cases b <;> first | rfl | exact absurd rfl h
theorem cg_ft {b : Bool} (h : ¬ b = false) : b = true := by cases b <;> first | rfl | exact absurd rfl h
/-! counts -/
def cg_cnt (p : Nat → Bool) : Nat → Nat
  | 0 => 0
  | n + 1 => cg_cnt p n + (if p n = true then 1 else 0)
theorem cg_cnt_s (p : Nat → Bool) (n : Nat) : cg_cnt p (n + 1) = cg_cnt p n + (if p n = true then 1 else 0) := rfl
theorem cg_cnt_le (p : Nat → Bool) (n : Nat) : cg_cnt p n ≤ n := by
  induction n with
  | zero => exact Nat.le_refl 0
  | succ n ih => rw [cg_cnt_s]; split <;> omega
theorem cg_cnt_congr {p q : Nat → Bool} {n : Nat} (h : ∀ j, j < n → p j = q j) : cg_cnt p n = cg_cnt q n := by
  induction n with
  | zero => rfl
  | succ n ih => rw [cg_cnt_s, cg_cnt_s, ih (fun j hj => h j (by omega)), h n (by omega)]
theorem cg_cnt_0 {p : Nat → Bool} {n : Nat} (h : ∀ j, j < n → p j = false) : cg_cnt p n = 0 := by
  induction n with
  | zero => rfl
  | succ n ih => rw [cg_cnt_s, ih (fun j hj => h j (by omega)), h n (by omega)]; rfl
theorem cg_cnt_all {p : Nat → Bool} {n : Nat} (h : ∀ j, j < n → p j = true) : cg_cnt p n = n := by
  induction n with
  | zero => rfl
  | succ n ih => rw [cg_cnt_s, ih (fun j hj => h j (by omega)), h n (by omega)]; rfl
theorem cg_cnt_z {p : Nat → Bool} {n : Nat} (h : cg_cnt p n = 0) : ∀ j, j < n → p j = false := by
  induction n with
  | zero => intro j hj; omega
  | succ n ih =>
    rw [cg_cnt_s] at h
    intro j hj
    by_cases e : j = n
    · subst e
      refine cg_tf (fun z => ?_)
      rw [if_pos z] at h
      omega
    · exact ih (by omega) j (by omega)
/-- one place goes -/
theorem cg_cnt_del {p q : Nat → Bool} {n b : Nat} (hb : b < n) (h1 : p b = true) (h2 : q b = false) (h : ∀ j, j < n → j ≠ b → p j = q j) : cg_cnt p n = cg_cnt q n + 1 := by
  induction n with
  | zero => omega
  | succ n ih =>
    rw [cg_cnt_s, cg_cnt_s]
    by_cases e : b = n
    · subst e
      rw [cg_cnt_congr (p := p) (q := q) (fun j hj => h j (by omega) (by omega)), h1, h2, if_pos rfl, if_neg (by decide)]
    · rw [ih (by omega) (fun j hj hn => h j (by omega) hn), h n (by omega) (by omega)]
      omega
/-- a part and the rest -/
theorem cg_cnt_sub {p q : Nat → Bool} {n : Nat} (h : ∀ j, j < n → q j = true → p j = true) : cg_cnt (fun j => p j && !q j) n + cg_cnt q n = cg_cnt p n := by
  induction n with
  | zero => rfl
  | succ n ih =>
    rw [cg_cnt_s, cg_cnt_s, cg_cnt_s]
    have e := ih (fun j hj => h j (by omega))
    have hh := h n (by omega)
    cases hp : p n <;> cases hq : q n
    · simp; exact e
    · rw [hp, hq] at hh; exact absurd (hh rfl) (by decide)
    · simp; omega
    · simp; omega
/-! rounding up -/
theorem cg_up0 {m : Nat} (hm : 0 < m) : (0 + m - 1) / m = 0 := Nat.div_eq_of_lt (by omega)
theorem cg_upS {c m : Nat} (hm : 0 < m) (hc : 0 < c) : (c + m - 1) / m = (c - min m c + m - 1) / m + 1 := by
  by_cases h : m ≤ c
  · rw [Nat.min_eq_left h, show c + m - 1 = (c - m + m - 1) + m by omega, Nat.add_div_right _ hm]
  · rw [Nat.min_eq_right (by omega), show c + m - 1 = (c - 1) + m by omega, Nat.add_div_right _ hm, Nat.sub_self, cg_up0 hm, Nat.div_eq_of_lt (by omega)]
theorem cg_upLe {c m : Nat} (hm : 0 < m) : (c + m - 1) / m ≤ c := by
  by_cases h : c = 0
  · subst h; rw [cg_up0 hm]; exact Nat.le_refl 0
  · have h1 : (c + m - 1) / m < c + 1 := by
      refine Nat.div_lt_of_lt_mul ?_
      have : m * 1 ≤ m * c := Nat.mul_le_mul_left m (by omega)
      have h2 : c * 1 ≤ c * m := Nat.mul_le_mul_left c hm
      rw [Nat.mul_add, Nat.mul_comm m c]
      omega
    omega
end
section
/-! ===== the small methods ===== -/
theorem cg_fill {f s : Nat → Int32} {i k : Nat} {x : Int32} (hk : k = i) (h : ∀ j, j < i → s j = f j) (hx : x = f i) : ∀ j, j < i + 1 → upd s k x j = f j := by
  intro j hj
  rw [hk]
  by_cases e : j = i
  · rw [e, pk_us, hx]
  · rw [pk_un e]
    exact h j (by omega)
theorem cg_tk_y {post : Int32 → Prop} {n i : Nat} {P : Int32} {a1 a2 a3 a4 : Nat → Int32} (hn : n ≤ 9) (hi : i < n) (h : post 1) : wpX_isTask post (nI n, P, a1, a2, a3, a4) (nI i) :=
  br_f (nI_pos (by omega)) (br_f (nI_ge hi (by omega)) h)
theorem cg_tk_n {post : Int32 → Prop} {n : Nat} {P x : Int32} {a1 a2 a3 a4 : Nat → Int32} (hx : x < 0 ∨ nI n ≤ x) (h : post 0) : wpX_isTask post (nI n, P, a1, a2, a3, a4) x := by
  refine br_c (fun _ => h) (fun z => ?_)
  rcases hx with hx | hx
  · exact absurd hx z
  · exact br_t hx h
/-- the picture of 'later' (or 'followers'): one order u -> v if u < n, else none -/
def cg_G (n : Nat) (a2 : Nat → Int32) (u v : Nat) : Prop := (∀ j, j < n → j ≠ u → a2 j = 0) ∧ (u < n → v < n ∧ v ≠ u ∧ a2 u = (1 : Int32) <<< (nI v &&& 31))
theorem cg_on : ∀ v, v < 9 → ¬ ((1 : Int32) <<< (nI v &&& 31)) = 0 := by decide +kernel
theorem cg_op : ∀ v, v < 9 → ((1 : Int32) <<< (nI v &&& 31)) &&& (((1 : Int32) <<< (nI v &&& 31)) - 1) = 0 := by decide +kernel
theorem cg_an0 (A : Int32) : A &&& ((0 : Int32) ^^^ (-1)) = A := by
  refine cg_ext (fun j hj => ?_)
  rw [cg_and, cg_not _ hj, cg_0]
  simp
/-- nothing follows a follower -/
theorem cg_gz {n u v x w : Nat} {a2 : Nat → Int32} (hn : n ≤ 9) (g : cg_G n a2 u v) (hx : x < n) (hw : w < n) (hb : cg_bt (a2 x) w = true) : a2 w = 0 := by
  by_cases e : x = u
  · subst e
    obtain ⟨hv, hvu, ha⟩ := g.2 hx
    rw [ha, cg_one v (by omega) w (by omega)] at hb
    rw [of_decide_eq_true hb]
    exact g.1 v hv hvu
  · rw [g.1 x hx e, cg_0] at hb
    exact absurd hb (by decide)
theorem cg_imm {post : Int32 → Prop} {n : Nat} {P : Int32} {a1 a2 a3 a4 : Nat → Int32} {x A : Int32} (hn : n ≤ 9)
    (H : ∀ r, ((∀ w, w < n → cg_bt A w = true → A &&& (a2 w ^^^ (-1)) = A) → r = A) → post r) : wpX_immediate post (nI n, P, a1, a2, a3, a4) x A := by
  refine pk_loop (fun k i s => wX_immediate_5 post A (nI n) P a1 a2 a3 a4 k s (nI i)) (fun _ s => (∀ w, w < n → cg_bt A w = true → A &&& (a2 w ^^^ (-1)) = A) → s = A) n 0 A (by omega) (fun _ => rfl) ?_ ?_
  · intro k s h
    exact pk_le n n (fun _ => H s h) (fun z => absurd z (by omega))
  · intro k i s hi h hw
    refine pk_le n i (fun z => absurd z (by omega)) (fun _ => cg_bit i (fun hb => nm_r (nI_1 i) (hw s h)) (fun hb => ⟨pk_in i 9 (by omega), ?_⟩))
    rw [nI_clamp (show i < 2 ^ 31 by omega)]
    exact nm_e (nm_r (nI_1 i) (hw _ (fun hc => by rw [h hc]; exact hc i hi hb)))
theorem cg_trees {post : Int32 → Prop} {n u v : Nat} {P : Int32} {a1 a2 a3 a4 : Nat → Int32} (hn : n ≤ 9) (g : cg_G n a2 u v) (hp : post 1) : wpX_inTrees post (nI n, P, a1, a2, a3, a4) := by
  refine pk_loop (σ := Unit) (fun k i _ => wX_inTrees_2 post (nI n) P a1 a2 a3 a4 k (nI i)) (fun _ _ => True) n 0 () (by omega) trivial ?_ ?_
  · intro k _ _
    exact pk_le n n (fun _ => hp) (fun z => absurd z (by omega))
  · intro k i _ hi _ hw
    refine pk_le n i (fun z => absurd z (by omega)) (fun _ => ⟨pk_in i 9 (by omega), ?_⟩)
    rw [nI_clamp (show i < 2 ^ 31 by omega)]
    refine cg_imm hn (fun r hr => br_t ?_ (nm_r (nI_1 i) (hw () trivial)))
    rw [hr (fun w hw hb => by rw [cg_gz hn g hi hw hb]; exact cg_an0 _)]
    by_cases e : i = u
    · subst e
      obtain ⟨hv, hvu, ha⟩ := g.2 hi
      rw [ha]
      exact cg_op v (by omega)
    · rw [g.1 i hi e]
      decide
theorem cg_hof {post : Int32 → Prop} {n i : Nat} {P : Int32} {a1 a2 a3 a4 : Nat → Int32} (hn : n ≤ 9) (hi : i < 9)
    (h : (a2 i = 0 ∧ post 1) ∨ (¬ a2 i = 0 ∧ (∀ w, w < n → cg_bt (a2 i) w = true → a2 w &&& a2 i = 0) ∧ post 2)) : wpX_heightOf post (nI n, P, a1, a2, a3, a4) (nI i) := by
  refine ⟨pk_in i 9 hi, ?_⟩
  rw [nI_clamp (show i < 2 ^ 31 by omega)]
  refine nm_e ?_
  rcases h with ⟨h0, hp⟩ | ⟨h0, hz, hp⟩
  · exact ⟨1, br_f (by decide) (br_t h0 hp)⟩
  · have hJ : wX_heightOf_12 post (nI n) P a1 a2 a3 a4 1 0 2 1 := br_f (by decide) (br_t rfl hp)
    refine ⟨2, br_f (by decide) (br_f h0 ?_)⟩
    refine pk_loop (σ := Unit) (fun k j _ => wX_heightOf_29 post (wX_heightOf_12 post (nI n) P a1 a2 a3 a4 1) (a2 i) 1 0 (nI n) P a1 a2 a3 a4 k 0 (nI j)) (fun _ _ => True) n 0 () (by omega) trivial ?_ ?_
    · intro k _ _
      exact pk_le n n (fun _ => nm_r (show (1 : Int32) + 1 = 2 by decide) (nm_r (show (0 : Int32) + 1 = 1 by decide) hJ)) (fun z => absurd z (by omega))
    · intro k j _ hj _ hw
      refine pk_le n j (fun z => absurd z (by omega)) (fun _ => cg_bit j (fun _ => nm_r (nI_1 j) (hw () trivial)) (fun hb => ⟨pk_in j 9 (by omega), ?_⟩))
      rw [nI_clamp (show j < 2 ^ 31 by omega)]
      exact br_t (hz j hj hb) (nm_r (nI_1 j) (hw () trivial))
theorem cg_hofG {post : Int32 → Prop} {n i u v : Nat} {P : Int32} {a1 a2 a3 a4 : Nat → Int32} (hn : n ≤ 9) (g : cg_G n a2 u v) (hi : i < n) (h0 : i ≠ u → post 1) (h1 : i = u → post 2) : wpX_heightOf post (nI n, P, a1, a2, a3, a4) (nI i) := by
  refine cg_hof hn (by omega) ?_
  by_cases e : i = u
  · obtain ⟨hv, hvu, ha⟩ := g.2 (by omega)
    refine Or.inr ⟨by rw [e, ha]; exact cg_on v (by omega), fun w hw hb => ?_, h1 e⟩
    rw [cg_gz hn g hi hw hb, Int32.zero_and]
  · exact Or.inl ⟨g.1 i hi e, h0 e⟩
theorem cg_lbh {post : St2 → Prop} {n u v : Nat} {P : Int32} {a1 a2 a3 a4 : Nat → Int32} (hn : n ≤ 9) (g : cg_G n a2 u v) (H : ∀ b, (u < n → ∀ j, j < n → j ≠ u → b j < b u) → post (nI n, P, a1, a2, a3, b)) : wpX_labelByHeights post (nI n, P, a1, a2, a3, a4) := by
  refine pk_loop (fun k i s => wX_labelByHeights_2 post (nI n) P k (nI i) a1 a2 a3 s) (fun i s => ∀ j, j < i → s j = if j = u then 2 else 1) n 0 a4 (by omega) (fun j hj => absurd hj (by omega)) ?_ ?_
  · intro k s h
    refine pk_le n n (fun _ => H s (fun hu j hj hju => ?_)) (fun z => absurd z (by omega))
    rw [h j hj, h u hu, if_neg hju, if_pos rfl]
    decide
  · intro k i s hi h hw
    refine pk_le n i (fun z => absurd z (by omega)) (fun _ => ?_)
    refine cg_hofG hn g hi (fun e => ⟨pk_in i 9 (by omega), nm_e (nm_r (nI_1 i) (hw _ ?_))⟩) (fun e => ⟨pk_in i 9 (by omega), nm_e (nm_r (nI_1 i) (hw _ ?_))⟩)
    · exact cg_fill (f := fun j => if j = u then 2 else 1) (nI_clamp (by omega)) h (by show _ = if i = u then (2 : Int32) else 1; rw [if_neg e]; decide)
    · exact cg_fill (f := fun j => if j = u then 2 else 1) (nI_clamp (by omega)) h (by show _ = if i = u then (2 : Int32) else 1; rw [if_pos e]; decide)
/-! closeOrders -/
def cg_NP (n : Nat) (a : Nat → Int32) : Prop := ∀ x, x < n → ∀ y, y < n → cg_bt (a x) y = true → a y = 0
theorem cg_c40 {post : St2 → Prop} {J : Int32 → (Nat → Int32) → (Nat → Int32) → (Nat → Int32) → (Nat → Int32) → Prop} {n i : Nat} {P : Int32} {a1 a2 a3 a4 : Nat → Int32} (hn : n ≤ 9) (hi : i < n) (h : cg_NP n a1 → ∀ j, j < n → a2 j = a1 j)
    (H : ∀ b, (cg_NP n a1 → ∀ j, j < n → b j = a1 j) → J (nI (i + 1)) a1 b a3 a4) : ∃ fu, wX_closeOrders_40 post J (nI i) (nI n) P fu 0 a1 a2 a3 a4 := by
  refine pk_loop (fun k x s => wX_closeOrders_40 post J (nI i) (nI n) P k (nI x) a1 s a3 a4) (fun _ s => cg_NP n a1 → ∀ j, j < n → s j = a1 j) n 0 a2 (by omega) h ?_ ?_
  · intro k s hs
    exact pk_le n n (fun _ => nm_r (nI_1 i) (H s hs)) (fun z => absurd z (by omega))
  · intro k x s hx hs hw
    refine pk_le n x (fun z => absurd z (by omega)) (fun _ => ⟨pk_in x 9 (by omega), ?_⟩)
    rw [nI_clamp (show x < 2 ^ 31 by omega), nI_clamp (show i < 2 ^ 31 by omega)]
    refine cg_bit i (fun _ => nm_r (nI_1 x) (hw s hs)) (fun hb => ⟨pk_in x 9 (by omega), pk_in i 9 (by omega), pk_in x 9 (by omega), nm_e (nm_r (nI_1 x) (hw _ (fun np j hj => ?_)))⟩)
    by_cases e : j = x
    · subst e
      rw [pk_us, hs np j hj, hs np i hi, np j hj i hi (by rw [← hs np j hj]; exact hb), Int32.or_zero]
    · rw [pk_un e]
      exact hs np j hj
theorem cg_close {post : St2 → Prop} {n : Nat} {P : Int32} {a1 a2 a3 a4 : Nat → Int32} (hn : n ≤ 9) (H : ∀ b, (cg_NP n a1 → ∀ j, j < n → b j = a1 j) → post (nI n, P, a1, b, a3, a4)) : wpX_closeOrders post (nI n, P, a1, a2, a3, a4) := by
  refine pk_loop (fun k i s => wX_closeOrders_2 post (nI n) P k (nI i) a1 s a3 a4) (fun i s => ∀ j, j < i → s j = a1 j) n 0 a2 (by omega) (fun j hj => absurd hj (by omega)) ?_ ?_
  · intro k s h
    refine pk_le n n (fun _ => ?_) (fun z => absurd z (by omega))
    refine pk_loop (fun k i s => wX_closeOrders_30 post (nI n) P k (nI i) a1 s a3 a4) (fun _ s => cg_NP n a1 → ∀ j, j < n → s j = a1 j) n 0 s (by omega) (fun _ => h) ?_ ?_
    · intro k s h
      exact pk_le n n (fun _ => H s h) (fun z => absurd z (by omega))
    · intro k i s hi h hw
      exact pk_le n i (fun z => absurd z (by omega)) (fun _ => cg_c40 hn hi h hw)
  · intro k i s hi h hw
    refine pk_le n i (fun z => absurd z (by omega)) (fun _ => ⟨pk_in i 9 (by omega), pk_in i 9 (by omega), ?_⟩)
    rw [nI_clamp (show i < 2 ^ 31 by omega)]
    exact nm_e (nm_r (nI_1 i) (hw _ (cg_fill rfl h rfl)))
/-! addOrder -/
theorem cg_add1 {post : Int32 → St2 → Prop} {n u v : Nat} {P : Int32} {a3 a4 : Nat → Int32} (hn : n ≤ 9) (hu : u < n) (hv : v < n) (huv : u ≠ v)
    (H : ∀ a1 a2, (∀ j, j ≠ u → a1 j = 0) → a1 u = (1 : Int32) <<< (nI v &&& 31) → (∀ j, j ≠ u → a2 j = 0) → a2 u = (1 : Int32) <<< (nI v &&& 31) → post 1 (nI n, P, a1, a2, a3, a4)) :
    wpX_addOrder post (nI n, P, (fun _ => 0), (fun _ => 0), a3, a4) (nI u) (nI v) := by
  unfold wpX_addOrder
  dsimp only
  refine cg_tk_y hn hu (br_f (by decide) (cg_tk_y hn hv (br_f (by decide) (br_f (fun z => huv ((nI_eq (by omega) (by omega)).mp z)) ⟨pk_in v 9 (by omega), br_t ((cg_tst (by omega)).mpr (cg_0 _)) ⟨pk_in u 9 (by omega), br_t ((cg_tst (by omega)).mpr (cg_0 _)) ⟨pk_in u 9 (by omega), pk_in u 9 (by omega), nm_e ⟨pk_in v 9 (by omega), nm_r Int32.zero_or ?_⟩⟩⟩⟩))))
  rw [nI_clamp (show u < 2 ^ 31 by omega), Int32.zero_or]
  refine pk_loop (fun k i s => wX_addOrder_80 post (nI u) ((1 : Int32) <<< (nI v &&& 31)) (nI n) P k (nI i) (upd (fun _ => 0) u ((1 : Int32) <<< (nI v &&& 31))) s a3 a4) (fun i s => (∀ j, j ≠ u → s j = 0) ∧ s u = if u < i then (1 : Int32) <<< (nI v &&& 31) else 0) n 0 (fun _ => 0) (by omega) ⟨fun j _ => rfl, rfl⟩ ?_ ?_
  · intro k s h
    exact pk_le n n (fun _ => H _ s (fun j hj => pk_un hj) pk_us h.1 (by rw [h.2, if_pos hu])) (fun z => absurd z (by omega))
  · intro k i s hi h hw
    refine pk_le n i (fun z => absurd z (by omega)) (fun _ => pk_eq i u (fun e => ?_) (fun e => ⟨pk_in i 9 (by omega), ?_⟩))
    · refine ⟨pk_in i 9 (by omega), pk_in i 9 (by omega), ?_⟩
      rw [nI_clamp (show i < 2 ^ 31 by omega)]
      refine nm_e (nm_r (nI_1 i) (hw _ ⟨fun j hj => ?_, ?_⟩))
      · rw [e, pk_un hj]
        exact h.1 j hj
      · rw [e, pk_us, h.2, if_neg (by omega), if_pos (by omega), Int32.zero_or]
    · rw [nI_clamp (show i < 2 ^ 31 by omega), h.1 i e]
      refine br_t ((cg_tst (by omega)).mpr (cg_0 _)) (nm_r (nI_1 i) (hw s ⟨h.1, ?_⟩))
      rw [h.2]
      by_cases z : u < i
      · rw [if_pos z, if_pos (by omega)]
      · rw [if_neg z, if_neg (by omega)]
theorem cg_add2 {post : Int32 → St2 → Prop} {n u v : Nat} {P : Int32} {a1 a2 a3 a4 : Nat → Int32} (hn : n ≤ 9) (hu : u < n) (hv : v < n) (huv : u ≠ v) (ha : a2 u = (1 : Int32) <<< (nI v &&& 31)) (hp : post (-4) (nI n, P, a1, a2, a3, a4)) :
    wpX_addOrder post (nI n, P, a1, a2, a3, a4) (nI v) (nI u) := by
  unfold wpX_addOrder
  dsimp only
  refine cg_tk_y hn hv (br_f (by decide) (cg_tk_y hn hu (br_f (by decide) (br_f (fun z => huv ((nI_eq (by omega) (by omega)).mp z).symm) ⟨pk_in u 9 (by omega), ?_⟩))))
  rw [nI_clamp (show u < 2 ^ 31 by omega), ha]
  refine br_f (fun z => ?_) hp
  rw [cg_tst (by omega), cg_one v (by omega) v (by omega)] at z
  exact of_decide_eq_false z rfl
theorem cg_addN {post : Int32 → St2 → Prop} {n : Nat} {P x y : Int32} {a1 a2 a3 a4 : Nat → Int32} (hn : n ≤ 9) (h : (x < 0 ∨ nI n ≤ x) ∨ (y < 0 ∨ nI n ≤ y)) (hp : post (-1) (nI n, P, a1, a2, a3, a4)) :
    wpX_addOrder post (nI n, P, a1, a2, a3, a4) x y := by
  unfold wpX_addOrder
  dsimp only
  by_cases hx : x < 0 ∨ nI n ≤ x
  · exact cg_tk_n hx (br_t rfl hp)
  · rcases h with h | h
    · exact absurd h hx
    · rcases pk_ix x (n := n) (by omega) with g | g | ⟨i, hi, e⟩
      · exact absurd (Or.inl g) hx
      · exact absurd (Or.inr g) hx
      · rw [e]
        exact cg_tk_y hn hi (br_f (by decide) (cg_tk_n h (br_t rfl hp)))
theorem cg_addC {post : Int32 → St2 → Prop} {n i : Nat} {P : Int32} {a1 a2 a3 a4 : Nat → Int32} (hn : n ≤ 9) (hi : i < n) (hp : post (-4) (nI n, P, a1, a2, a3, a4)) :
    wpX_addOrder post (nI n, P, a1, a2, a3, a4) (nI i) (nI i) := by
  unfold wpX_addOrder
  dsimp only
  exact cg_tk_y hn hi (br_f (by decide) (cg_tk_y hn hi (br_f (by decide) (br_t rfl hp))))
/-! labelList -/
theorem cg_list0 {post : Int32 → Prop} {n : Nat} {P : Int32} {a1 a2 a3 a4 : Nat → Int32} (hn : n ≤ 9) (hp : post 0) : wpX_labelList post (nI n, P, a1, a2, a3, a4) 0 := by
  refine pk_loop (σ := Unit) (fun k i _ => wX_labelList_4 post 0 (nI n) P a1 a2 a3 a4 k 0 (nI i)) (fun _ _ => True) n 0 () (by omega) trivial ?_ ?_
  · intro k _ _
    exact pk_le n n (fun _ => hp) (fun z => absurd z (by omega))
  · intro k i _ hi _ hw
    exact pk_le n i (fun z => absurd z (by omega)) (fun _ => br_t ((cg_tst (by omega)).mpr (cg_0 i)) (nm_r (nI_1 i) (hw () trivial)))
theorem cg_list1 {post : Int32 → Prop} {n v : Nat} {P : Int32} {a1 a2 a3 a4 : Nat → Int32} (hn : n ≤ 9) (hv : v < n) (h0 : a4 v = 0 → post (-1)) (h1 : ¬ a4 v = 0 → post ((1 : Int32) <<< (a4 v &&& 31))) : wpX_labelList post (nI n, P, a1, a2, a3, a4) ((1 : Int32) <<< (nI v &&& 31)) := by
  refine pk_loop (fun k i s => wX_labelList_4 post ((1 : Int32) <<< (nI v &&& 31)) (nI n) P a1 a2 a3 a4 k s (nI i)) (fun i s => (v < i → ¬ a4 v = 0 ∧ s = (1 : Int32) <<< (a4 v &&& 31)) ∧ (i ≤ v → s = 0)) n 0 0 (by omega) ⟨fun z => absurd z (by omega), fun _ => rfl⟩ ?_ ?_
  · intro k s h
    obtain ⟨g, e⟩ := h.1 hv
    refine pk_le n n (fun _ => ?_) (fun z => absurd z (by omega))
    rw [e]
    exact h1 g
  · intro k i s hi h hw
    refine pk_le n i (fun z => absurd z (by omega)) (fun _ => cg_bit i (fun hb => nm_r (nI_1 i) (hw s ?_)) (fun hb => ⟨pk_in i 9 (by omega), ?_⟩))
    · rw [cg_one v (by omega) i (by omega)] at hb
      have e : i ≠ v := of_decide_eq_false hb
      exact ⟨fun z => h.1 (by omega), fun z => h.2 (by omega)⟩
    · rw [cg_one v (by omega) i (by omega)] at hb
      have e : i = v := of_decide_eq_true hb
      subst e
      rw [nI_clamp (show i < 2 ^ 31 by omega)]
      exact br_c (fun z => h0 z) (fun z => ⟨pk_in i 9 (by omega), nm_r (e' := (1 : Int32) <<< (a4 i &&& 31)) (by rw [h.2 (Nat.le_refl i), Int32.zero_or]) (nm_r (nI_1 i) (hw _ ⟨fun _ => ⟨z, rfl⟩, fun z => absurd z (by omega)⟩))⟩)
end
section
/-! ===== labelByLists ===== -/
/-- the order within the part P: u -> v if u < n, else none -/
def cg_T (n : Nat) (P : Int32) (a3 : Nat → Int32) (u v : Nat) : Prop := (∀ j, j < n → cg_bt P j = true → j ≠ u → a3 j = 0) ∧ (u < n → v < n ∧ v ≠ u ∧ cg_bt P u = true ∧ cg_bt P v = true ∧ a3 u = (1 : Int32) <<< (nI v &&& 31))
/-- not yet labelled -/
def cg_U (P : Int32) (a4 : Nat → Int32) (j : Nat) : Bool := cg_bt P j && decide (a4 j = 0)
theorem cg_U_t {P : Int32} {a4 : Nat → Int32} {j : Nat} (h : cg_U P a4 j = true) : cg_bt P j = true ∧ a4 j = 0 := by
  unfold cg_U at h
  rw [Bool.and_eq_true, decide_eq_true_eq] at h
  exact h
theorem cg_U_i {P : Int32} {a4 : Nat → Int32} {j : Nat} (h : cg_bt P j = true) (h2 : a4 j = 0) : cg_U P a4 j = true := by
  unfold cg_U
  rw [Bool.and_eq_true, decide_eq_true_eq]
  exact ⟨h, h2⟩
theorem cg_U_f {P : Int32} {a4 : Nat → Int32} {j : Nat} (h2 : ¬ a4 j = 0) : cg_U P a4 j = false := cg_tf (fun z => h2 (cg_U_t z).2)
theorem cg_lab : ∀ k, k < 10 → (nI k).toInt8.toInt32 = nI k := by decide +kernel
theorem cg_shp : ∀ l, l < 10 → ¬ (1 : Int32) <<< (nI l &&& 31) < 0 ∧ (0 : Int32) < (1 : Int32) <<< (nI l &&& 31) := by decide +kernel
/-- the search for the next to label, ahead of place i -/
def cg_I (P : Int32) (a4 : Nat → Int32) (u v i : Nat) (s : Int32 × Int32) : Prop :=
  (s.1 = -1 ∧ ∀ j, j < i → cg_U P a4 j = true → j = u ∧ a4 v = 0) ∨
  (∃ b, b < i ∧ s.1 = nI b ∧ cg_U P a4 b = true ∧ (b ≠ u → s.2 = 0) ∧ (b = u → s.2 = (1 : Int32) <<< (a4 v &&& 31) ∧ ∀ j, j < i → cg_U P a4 j = true → j = u))
theorem cg_I_skip {P : Int32} {a4 : Nat → Int32} {u v i : Nat} {s : Int32 × Int32} (h : cg_I P a4 u v i s) (hi : cg_U P a4 i = true → i = u ∧ a4 v = 0) : cg_I P a4 u v (i + 1) s := by
  rcases h with ⟨e, h⟩ | ⟨b, hb, e, hU, h0, h1⟩
  · exact Or.inl ⟨e, lt_s h hi⟩
  · exact Or.inr ⟨b, by omega, e, hU, h0, fun z => ⟨(h1 z).1, lt_s (h1 z).2 (fun y => (hi y).1)⟩⟩
theorem cg_l65 {post : St2 → Prop} {J : Int32 → (Nat → Int32) → (Nat → Int32) → (Nat → Int32) → (Nat → Int32) → Prop} {n u v k : Nat} {P : Int32} {a1 a2 a3 a4 : Nat → Int32} (hn : n ≤ 9) (hk : k ≤ 9) (t : cg_T n P a3 u v) (hl : ∀ j, j < n → ∃ l, l < k ∧ a4 j = nI l)
    (H0 : (∀ j, j < n → cg_U P a4 j = false) → J (nI (k + 1)) a1 a2 a3 a4)
    (H1 : ∀ b, b < n → cg_U P a4 b = true → (b = u → ∀ j, j < n → cg_U P a4 j = true → j = u) → J (nI (k + 1)) a1 a2 a3 (upd a4 b (nI k))) :
    ∃ fu, wX_labelByLists_65 post J (nI k) (nI n) P a1 a2 a3 a4 fu (-1) 0 0 := by
  refine pk_loop (fun m i s => wX_labelByLists_65 post J (nI k) (nI n) P a1 a2 a3 a4 m s.1 s.2 (nI i)) (fun i s => cg_I P a4 u v i s) n 0 ((-1, 0) : Int32 × Int32) (by omega) (Or.inl ⟨rfl, fun j hj => absurd hj (by omega)⟩) ?_ ?_
  · intro m s h
    obtain ⟨x2, x3⟩ := s
    refine pk_le n n (fun _ => ?_) (fun z => absurd z (by omega))
    rcases h with ⟨e, h⟩ | ⟨b, hb, e, hU, h0, h1⟩
    · have e' : x2 = -1 := e
      refine br_t (show x2 < 0 by rw [e']; decide) (nm_r (nI_1 k) (H0 (fun j hj => cg_tf (fun z => ?_))))
      obtain ⟨ju, hv0⟩ := h j hj z
      obtain ⟨hv, hvu, hPu, hPv, ha⟩ := t.2 (by omega)
      exact hvu (h v hv (cg_U_i hPv hv0)).1
    · have e' : x2 = nI b := e
      subst e'
      refine br_f (nI_pos (by omega)) ⟨pk_in b 9 (by omega), nm_r (e' := upd a4 b (nI k)) ?_ (nm_r (nI_1 k) (H1 b hb hU (fun z => (h1 z).2)))⟩
      rw [cg_lab k (by omega)]
      exact congrArg (fun q => upd a4 q (nI k)) (nI_clamp (by omega))
  · intro m i s hi h hw
    obtain ⟨x2, x3⟩ := s
    refine pk_le n i (fun z => absurd z (by omega)) (fun _ => cg_bit i (fun hb => nm_r (nI_1 i) (hw (x2, x3) ?_)) (fun hb => ⟨pk_in i 9 (by omega), ?_⟩))
    · exact cg_I_skip h (fun z => absurd ((cg_U_t z).1.symm.trans hb) (by decide))
    · rw [nI_clamp (show i < 2 ^ 31 by omega)]
      refine br_c (fun hz => ⟨pk_in i 9 (by omega), ?_⟩) (fun hz => nm_r (nI_1 i) (hw (x2, x3) ?_))
      · by_cases e : i = u
        · subst e
          obtain ⟨hv, hvu, hPu, hPv, ha⟩ := t.2 hi
          rw [ha]
          refine cg_list1 hn hv (fun hv0 => br_t (by decide) (nm_r (nI_1 i) (hw (x2, x3) (cg_I_skip h (fun _ => ⟨rfl, hv0⟩))))) (fun hv1 => ?_)
          obtain ⟨l, hlk, el⟩ := hl v hv
          have hs := cg_shp l (by omega)
          rw [← el] at hs
          refine br_f hs.1 ?_
          rcases h with ⟨e, h⟩ | ⟨b, hb2, e, hU, h0, h1⟩
          · have e' : x2 = -1 := e
            refine br_t (show x2 < 0 by rw [e']; decide) (nm_r (nI_1 i) (hw (nI i, (1 : Int32) <<< (a4 v &&& 31)) ?_))
            exact Or.inr ⟨i, by omega, rfl, cg_U_i hPu hz, fun z => absurd rfl z, fun _ => ⟨rfl, lt_s (fun j hj z => (h j hj z).1) (fun _ => rfl)⟩⟩
          · have e' : x2 = nI b := e
            have e0 : x3 = 0 := h0 (by omega)
            refine br_f (show ¬ x2 < 0 by rw [e']; exact nI_pos (by omega)) (br_f (show ¬ _ < x3 by rw [e0]; exact hs.1) (nm_r (nI_1 i) (hw (x2, x3) ?_)))
            exact Or.inr ⟨b, by omega, e, hU, h0, fun z => absurd z (by omega)⟩
        · rw [t.1 i hi hb e]
          refine cg_list0 hn (br_f (by decide) ?_)
          have hnew : cg_I P a4 u v (i + 1) (nI i, 0) := Or.inr ⟨i, by omega, rfl, cg_U_i hb hz, fun _ => rfl, fun z => absurd z e⟩
          rcases h with ⟨e2, h⟩ | ⟨b, hb2, e2, hU, h0, h1⟩
          · have e' : x2 = -1 := e2
            exact br_t (show x2 < 0 by rw [e']; decide) (nm_r (nI_1 i) (hw (nI i, 0) hnew))
          · have e' : x2 = nI b := e2
            refine br_f (show ¬ x2 < 0 by rw [e']; exact nI_pos (by omega)) ?_
            by_cases eb : b = u
            · obtain ⟨hv, hvu, hPu, hPv, ha⟩ := t.2 (by omega)
              obtain ⟨l, hlk, el⟩ := hl v hv
              have hs := cg_shp l (by omega)
              rw [← el] at hs
              have e3 : x3 = (1 : Int32) <<< (a4 v &&& 31) := (h1 eb).1
              exact br_t (show 0 < x3 by rw [e3]; exact hs.2) (nm_r (nI_1 i) (hw (nI i, 0) hnew))
            · have e3 : x3 = 0 := h0 eb
              refine br_f (show ¬ 0 < x3 by rw [e3]; decide) (nm_r (nI_1 i) (hw (x2, x3) ?_))
              exact Or.inr ⟨b, by omega, e2, hU, h0, fun z => absurd z eb⟩
      · exact cg_I_skip h (fun z => absurd (cg_U_t z).2 hz)
/-- the labels ahead of number k -/
def cg_L (n : Nat) (P : Int32) (u k : Nat) (a4 : Nat → Int32) : Prop :=
  1 ≤ k ∧ (∀ j, j < n → ∃ l, l < k ∧ a4 j = nI l) ∧ (u < n → ¬ a4 u = 0 → ∀ j, j < n → cg_bt P j = true → j ≠ u → ¬ a4 j = 0 ∧ a4 j < a4 u) ∧ cg_cnt (cg_U P a4) n + k ≤ 10
theorem cg_L_none {n u k : Nat} {P : Int32} {a4 : Nat → Int32} (hk : k ≤ 9) (h : cg_L n P u k a4) (h0 : ∀ j, j < n → cg_U P a4 j = false) : cg_L n P u (k + 1) a4 := by
  refine ⟨by omega, fun j hj => ?_, h.2.2.1, ?_⟩
  · obtain ⟨l, hl, e⟩ := h.2.1 j hj
    exact ⟨l, by omega, e⟩
  · rw [cg_cnt_0 h0]
    omega
theorem cg_L_one {n u k b : Nat} {P : Int32} {a4 : Nat → Int32} (hn : n ≤ 9) (hk : k ≤ 9) (h : cg_L n P u k a4) (hb : b < n) (hU : cg_U P a4 b = true) (hu : b = u → ∀ j, j < n → cg_U P a4 j = true → j = u) : cg_L n P u (k + 1) (upd a4 b (nI k)) := by
  obtain ⟨h1, h2, h3, h4⟩ := h
  refine ⟨by omega, fun j hj => ?_, fun hun hne j hj hPj hju => ?_, ?_⟩
  · by_cases e : j = b
    · subst e
      exact ⟨k, by omega, pk_us⟩
    · obtain ⟨l, hl, el⟩ := h2 j hj
      exact ⟨l, by omega, by rw [pk_un e]; exact el⟩
  · by_cases e : b = u
    · subst e
      rw [pk_us, pk_un hju]
      have hz : ¬ a4 j = 0 := fun z => hju (hu rfl j hj (cg_U_i hPj z))
      obtain ⟨l, hl, el⟩ := h2 j hj
      exact ⟨hz, by rw [el]; exact nI_lt hl (by omega)⟩
    · rw [pk_un (fun z => e z.symm)] at hne
      exact absurd (cg_U_t hU).2 (h3 hun hne b hb (cg_U_t hU).1 e).1
  · have hc := cg_cnt_del (p := cg_U P a4) (q := cg_U P (upd a4 b (nI k))) hb hU (cg_U_f (by rw [pk_us]; exact nI_ne0 (by omega) (by omega))) (fun j hj hjb => by unfold cg_U; rw [pk_un hjb])
    omega
theorem cg_l52 {post : St2 → Prop} {n u v : Nat} {P : Int32} {a1 a2 a3 a4 : Nat → Int32} (hn : n ≤ 9) (t : cg_T n P a3 u v) (h : cg_L n P u 1 a4)
    (H : ∀ b, (u < n → ∀ j, j < n → cg_bt P j = true → j ≠ u → b j < b u) → post (nI n, P, a1, a2, a3, b)) : ∃ fu, wX_labelByLists_52 post (nI n) P fu 1 a1 a2 a3 a4 := by
  refine pk_loop (fun m k s => wX_labelByLists_52 post (nI n) P m (nI k) a1 a2 a3 s) (fun k s => cg_L n P u k s) 10 1 a4 (by omega) h ?_ ?_
  · intro m s h
    refine pk_lt 9 10 (fun _ => H s (fun hu j hj hPj hju => ?_)) (fun z => absurd z (by omega))
    have hz := cg_cnt_z (p := cg_U P s) (n := n) (by have := h.2.2.2; omega) u hu
    refine (h.2.2.1 hu (fun z => ?_) j hj hPj hju).2
    rw [cg_U_i (t.2 hu).2.2.1 z] at hz
    exact absurd hz (by decide)
  · intro m k s hk h hw
    exact pk_lt 9 k (fun z => absurd z (by omega)) (fun _ => cg_l65 hn (by omega) t h.2.1 (fun h0 => hw s (cg_L_none (by omega) h h0)) (fun b hb hU hu => hw _ (cg_L_one hn (by omega) h hb hU hu)))
/-- in the part, 'immediate' takes nothing away -/
theorem cg_Tim {n u v i w : Nat} {P : Int32} {a2 : Nat → Int32} (hn : n ≤ 9) (t : cg_T n P (fun j => a2 j &&& P) u v) (hi : i < n) (hPi : cg_bt P i = true) (hw : w < n) (hb : cg_bt (a2 i &&& P) w = true) : (a2 i &&& P) &&& (a2 w ^^^ (-1)) = a2 i &&& P := by
  by_cases e : i = u
  · subst e
    obtain ⟨hv, hvu, hPu, hPv, ha⟩ := t.2 hi
    have ha' : a2 i &&& P = (1 : Int32) <<< (nI v &&& 31) := ha
    have hz : a2 v &&& P = 0 := t.1 v hv hPv hvu
    have hz2 : cg_bt (a2 v) v = false := by
      have q : cg_bt (a2 v &&& P) v = false := by rw [hz]; exact cg_0 v
      rw [cg_and, hPv] at q
      simpa using q
    rw [ha'] at hb ⊢
    rw [cg_one v (by omega) w (by omega)] at hb
    have ew : w = v := of_decide_eq_true hb
    subst ew
    refine cg_ext (fun j hj => ?_)
    rw [cg_and, cg_not _ hj, cg_one w (by omega) j hj]
    by_cases ej : j = w
    · subst ej
      rw [hz2]
      simp
    · simp [ej]
  · have hz : a2 i &&& P = 0 := t.1 i hi hPi e
    rw [hz, cg_0] at hb
    exact absurd hb (by decide)
theorem cg_lbl {post : St2 → Prop} {n u v : Nat} {P : Int32} {a1 a2 a3 a4 : Nat → Int32} (hn : n ≤ 9) (t : cg_T n P (fun j => a2 j &&& P) u v)
    (H : ∀ b c, (u < n → ∀ j, j < n → cg_bt P j = true → j ≠ u → c j < c u) → post (nI n, P, a1, a2, b, c)) : wpX_labelByLists post (nI n, P, a1, a2, a3, a4) := by
  refine pk_loop (fun m i s => wX_labelByLists_2 post (nI n) P m (nI i) a1 a2 s.1 s.2) (fun i s => (∀ j, j < i → cg_bt P j = true → s.1 j = a2 j &&& P) ∧ ∀ j, j < i → s.2 j = 0) n 0 ((a3, a4) : (Nat → Int32) × (Nat → Int32)) (by omega) ⟨fun j hj => absurd hj (by omega), fun j hj => absurd hj (by omega)⟩ ?_ ?_
  · intro m s h
    obtain ⟨b, c⟩ := s
    have hb : ∀ j, j < n → cg_bt P j = true → b j = a2 j &&& P := h.1
    have hc : ∀ j, j < n → c j = 0 := h.2
    have tb : cg_T n P b u v := by
      refine ⟨fun j hj hPj hju => ?_, fun hu => ?_⟩
      · rw [hb j hj hPj]
        exact t.1 j hj hPj hju
      · obtain ⟨hv, hvu, hPu, hPv, ha⟩ := t.2 hu
        exact ⟨hv, hvu, hPu, hPv, by rw [hb u hu hPu]; exact ha⟩
    refine pk_le n n (fun _ => cg_l52 hn tb ⟨by omega, fun j hj => ⟨0, by omega, hc j hj⟩, fun hu hne => absurd (hc u hu) hne, ?_⟩ (fun c' hc' => H b c' hc')) (fun z => absurd z (by omega))
    have := cg_cnt_le (cg_U P c) n
    show cg_cnt (cg_U P c) n + 1 ≤ 10
    omega
  · intro m i s hi h hw
    obtain ⟨b, c⟩ := s
    have hb : ∀ j, j < i → cg_bt P j = true → b j = a2 j &&& P := h.1
    have hc : ∀ j, j < i → c j = 0 := h.2
    refine pk_le n i (fun z => absurd z (by omega)) (fun _ => ⟨pk_in i 9 (by omega), nm_e ⟨pk_in i 9 (by omega), ?_⟩⟩)
    refine cg_imm hn (fun r hr => ⟨pk_in i 9 (by omega), nm_e (nm_r (nI_1 i) (hw (_, _) ⟨?_, ?_⟩))⟩)
    · intro j hj hPj
      show upd b (nI i).toNatClampNeg (r &&& P) j = a2 j &&& P
      rw [nI_clamp (show i < 2 ^ 31 by omega)] at hr ⊢
      by_cases e : j = i
      · subst e
        rw [pk_us, hr (fun w hw hbw => cg_Tim hn t hi hPj hw hbw), Int32.and_assoc, Int32.and_self]
      · rw [pk_un e]
        exact hb j (by omega) hPj
    · exact cg_fill (f := fun _ => 0) (nI_clamp (by omega)) hc rfl
end
section
/-! ===== isReady, bestReady, lengthOnList ===== -/
theorem cg_rdy {post : Int32 → Prop} {n c : Nat} {P O : Int32} {a1 a2 a3 a4 : Nat → Int32} (hn : n ≤ 9) (hc : c < 9) (h1 : (∀ x, x < n → cg_bt O x = true → cg_bt (a2 x) c = false) → post 1) (h0 : ∀ x, x < n → cg_bt O x = true → cg_bt (a2 x) c = true → post 0) :
    wpX_isReady post (nI n, P, a1, a2, a3, a4) (nI c) O := by
  refine pk_loop (σ := Unit) (fun k i _ => wX_isReady_2 post (nI c) O (nI n) P a1 a2 a3 a4 k (nI i)) (fun i _ => ∀ x, x < i → cg_bt O x = true → cg_bt (a2 x) c = false) n 0 () (by omega) (fun x hx => absurd hx (by omega)) ?_ ?_
  · intro k _ h
    exact pk_le n n (fun _ => h1 h) (fun z => absurd z (by omega))
  · intro k i _ hi h hw
    refine pk_le n i (fun z => absurd z (by omega)) (fun _ => cg_bit i (fun hb => nm_r (nI_1 i) (hw () (lt_s h (fun z => absurd (z.symm.trans hb) (by decide))))) (fun hb => ⟨pk_in i 9 (by omega), ?_⟩))
    rw [nI_clamp (show i < 2 ^ 31 by omega)]
    exact cg_bit c (fun hb2 => nm_r (nI_1 i) (hw () (lt_s h (fun _ => hb2)))) (fun hb2 => h0 i hi hb hb2)
/-- the best of the candidates (C, not in S) ahead of place i -/
def cg_B (C : Nat → Bool) (S : Int32) (a4 : Nat → Int32) (i : Nat) (s : Int32) : Prop :=
  (s = -1 ∧ ∀ j, j < i → C j = true → cg_bt S j = true) ∨ ∃ b, b < i ∧ s = nI b ∧ C b = true ∧ cg_bt S b = false ∧ ∀ j, j < i → C j = true → cg_bt S j = false → a4 j ≤ a4 b
theorem cg_B_skip {C : Nat → Bool} {S : Int32} {a4 : Nat → Int32} {i : Nat} {s : Int32} (h : cg_B C S a4 i s) (hi : C i = true → cg_bt S i = true) : cg_B C S a4 (i + 1) s := by
  rcases h with ⟨e, h⟩ | ⟨b, hb, e, hC, hS, h⟩
  · exact Or.inl ⟨e, lt_s h hi⟩
  · exact Or.inr ⟨b, by omega, e, hC, hS, lt_s h (fun z z2 => absurd ((hi z).symm.trans z2) (by decide))⟩
/-- who may run: in O, and nobody in O is ahead of it -/
def cg_C (n : Nat) (O : Int32) (a2 : Nat → Int32) (C : Nat → Bool) : Prop := ∀ j, j < n → (C j = true ↔ (cg_bt O j = true ∧ ∀ x, x < n → cg_bt O x = true → cg_bt (a2 x) j = false))
theorem cg_best {post : Int32 → Prop} {n : Nat} {P D S O : Int32} {a1 a2 a3 a4 : Nat → Int32} {C : Nat → Bool} (hn : n ≤ 9) (hO : P &&& (D ^^^ (-1)) = O) (hC : cg_C n O a2 C)
    (H0 : (∀ j, j < n → C j = true → cg_bt S j = true) → post (-1))
    (H1 : ∀ b, b < n → C b = true → cg_bt S b = false → (∀ j, j < n → C j = true → cg_bt S j = false → a4 j ≤ a4 b) → post (nI b)) :
    wpX_bestReady post (nI n, P, a1, a2, a3, a4) D S := by
  refine nm_r (e' := O) hO ?_
  refine pk_loop (fun k i s => wX_bestReady_15 post S O (nI n) P a1 a2 a3 a4 k s (nI i)) (fun i s => cg_B C S a4 i s) n 0 (-1) (by omega) (Or.inl ⟨rfl, fun j hj => absurd hj (by omega)⟩) ?_ ?_
  · intro k s h
    refine pk_le n n (fun _ => ?_) (fun z => absurd z (by omega))
    rcases h with ⟨e, h⟩ | ⟨b, hb, e, hCb, hS, h⟩
    · rw [e]
      exact H0 h
    · rw [e]
      exact H1 b hb hCb hS h
  · intro k i s hi h hw
    refine pk_le n i (fun z => absurd z (by omega)) (fun _ => cg_bit i (fun hb => nm_r (nI_1 i) (hw s (cg_B_skip h (fun z => absurd (((hC i hi).mp z).1.symm.trans hb) (by decide))))) (fun hb => cg_bit i (fun hs => ?_) (fun hs => nm_r (nI_1 i) (hw s (cg_B_skip h (fun _ => hs))))))
    refine cg_rdy hn (by omega) (fun hr => br_f (by decide) ?_) (fun x hx hxO hxa => br_t rfl (nm_r (nI_1 i) (hw s (cg_B_skip h (fun z => absurd ((((hC i hi).mp z).2 x hx hxO).symm.trans hxa) (by decide))))))
    have hCi : C i = true := (hC i hi).mpr ⟨hb, hr⟩
    rcases h with ⟨e, h⟩ | ⟨b, hb2, e, hCb, hS, h⟩
    · refine br_t (by rw [e]; decide) (nm_r (nI_1 i) (hw (nI i) (Or.inr ⟨i, by omega, rfl, hCi, hs, lt_s (fun j hj z z2 => absurd ((h j hj z).symm.trans z2) (by decide)) (fun _ _ => Int32.le_refl _)⟩)))
    · subst e
      refine br_f (nI_pos (by omega)) ⟨pk_in i 9 (by omega), pk_in b 9 (by omega), ?_⟩
      rw [nI_clamp (show i < 2 ^ 31 by omega), nI_clamp (show b < 2 ^ 31 by omega)]
      refine br_c (fun z => nm_r (nI_1 i) (hw (nI b) (Or.inr ⟨b, by omega, rfl, hCb, hS, lt_s h (fun _ _ => z)⟩))) (fun z => nm_r (nI_1 i) (hw (nI i) (Or.inr ⟨i, by omega, rfl, hCi, hs, lt_s (fun j hj y y2 => Int32.le_trans (h j hj y y2) (Int32.le_of_lt (Int32.not_le.mp z))) (fun _ _ => Int32.le_refl _)⟩)))
/-- one slot: m times the best; S is what it holds -/
theorem cg_slot {post : Int32 → Prop} {J : Int32 → Int32 → Prop} {n m u : Nat} {P D O l : Int32} {a1 a2 a3 a4 : Nat → Int32} {C : Nat → Bool} (hn : n ≤ 9) (hm : m ≤ 9) (hO : P &&& (D ^^^ (-1)) = O) (hC : cg_C n O a2 C) (hmax : u < n → ∀ j, j < n → C j = true → j ≠ u → a4 j < a4 u)
    (H : ∀ S, (∀ j, j < 32 → cg_bt S j = true → j < n ∧ C j = true) → cg_cnt (cg_bt S) n = min m (cg_cnt C n) → (0 < m → u < n → C u = true → cg_bt S u = true) → J (D ||| S) (l + 1)) :
    ∃ fu, wX_lengthOnList_24 post J (nI m) D l (nI n) P a1 a2 a3 a4 fu 0 0 := by
  refine pk_loop (fun k i s => wX_lengthOnList_24 post J (nI m) D l (nI n) P a1 a2 a3 a4 k s (nI i)) (fun i S => (∀ j, j < 32 → cg_bt S j = true → j < n ∧ C j = true) ∧ cg_cnt (cg_bt S) n = min i (cg_cnt C n) ∧ (0 < i → u < n → C u = true → cg_bt S u = true)) m 0 0 (by omega) ⟨fun j _ hb => absurd ((cg_0 j).symm.trans hb) (by decide), ?_, fun z => absurd z (by omega)⟩ ?_ ?_
  · rw [cg_cnt_0 (fun j _ => cg_0 j)]
    omega
  · intro k S h
    exact pk_le m m (fun _ => nm_e (nm_e (H S h.1 h.2.1 h.2.2))) (fun z => absurd z (by omega))
  · intro k i S hi h hw
    obtain ⟨h1, h2, h3⟩ := h
    refine pk_le m i (fun z => absurd z (by omega)) (fun _ => cg_best hn hO hC (fun h0 => br_t (by decide) (nm_r (nI_1 i) (hw S ⟨h1, ?_, fun _ hu hCu => h0 u hu hCu⟩))) (fun b hb hCb hSb hmx => br_f (nI_pos (by omega)) (nm_e (nm_r (nI_1 i) (hw _ ⟨?_, ?_, ?_⟩)))))
    · have e : cg_cnt (cg_bt S) n = cg_cnt C n := cg_cnt_congr (fun j hj => by
        cases hc : C j
        · exact cg_tf (fun z => absurd ((h1 j (by omega) z).2.symm.trans hc) (by decide))
        · exact h0 j hj hc)
      omega
    · intro j hj hbj
      rw [cg_or, cg_one b (by omega) j hj, Bool.or_eq_true, decide_eq_true_eq] at hbj
      rcases hbj with z | z
      · exact h1 j hj z
      · rw [z]
        exact ⟨hb, hCb⟩
    · have e1 : cg_cnt (cg_bt (S ||| (1 : Int32) <<< (nI b &&& 31))) n = cg_cnt (cg_bt S) n + 1 := by
        refine cg_cnt_del hb ?_ hSb (fun j hj hjb => ?_)
        · rw [cg_or, cg_one b (by omega) b (by omega)]
          simp
        · rw [cg_or, cg_one b (by omega) j (by omega)]
          simp [hjb]
      have e2 := cg_cnt_sub (p := C) (q := cg_bt S) (n := n) (fun j hj z => (h1 j (by omega) z).2)
      have e3 : cg_cnt (fun j => C j && !cg_bt S j) n ≠ 0 := by
        intro z
        have q := cg_cnt_z z b hb
        rw [hCb, hSb] at q
        exact absurd q (by decide)
      omega
    · intro _ hu hCu
      rw [cg_or, cg_one b (by omega) u (by omega), Bool.or_eq_true, decide_eq_true_eq]
      cases hs : cg_bt S u
      · refine Or.inr ?_
        by_cases e : u = b
        · exact e
        · exact absurd (hmx u hu hCu hs) (Int32.not_le.mpr (hmax hu b hb hCb (fun z => e z.symm)))
      · exact Or.inl rfl
theorem cg_open {P D : Int32} {j : Nat} (hj : j < 32) : cg_bt (P &&& (D ^^^ (-1))) j = (cg_bt P j && !cg_bt D j) := by
  rw [cg_and, cg_not _ hj]
/-- the rounds, once no order is open -/
theorem cg_free {post : Int32 → Prop} {n m T : Nat} {P : Int32} {a1 a2 a3 a4 : Nat → Int32} (hn : n ≤ 9) (hm0 : 0 < m) (hm : m ≤ 9) (hP : ∀ j, j < 32 → cg_bt P j = true → j < n) (hT : T ≤ 9) (hp : post (nI T)) :
    ∀ (k : Nat) (D : Int32) (l : Nat), cg_cnt (fun j => cg_bt P j && !cg_bt D j) n < k → (∀ j, j < 32 → cg_bt D j = true → cg_bt P j = true) → (∀ x, x < n → cg_bt P x = true → cg_bt D x = false → ∀ y, y < n → cg_bt P y = true → cg_bt (a2 x) y = false) → l + (cg_cnt (fun j => cg_bt P j && !cg_bt D j) n + m - 1) / m = T →
    wX_lengthOnList_4 post (nI m) (nI n) P a1 a2 a3 a4 k D (nI l) := by
  intro k
  induction k with
  | zero => intro D l h; omega
  | succ k ih =>
    intro D l hk hD hF hl
    by_cases e : D = P
    · refine br_t e ?_
      have c0 : cg_cnt (fun j => cg_bt P j && !cg_bt D j) n = 0 := cg_cnt_0 (fun j _ => by rw [e]; cases cg_bt P j <;> rfl)
      rw [c0, cg_up0 hm0] at hl
      rw [show l = T by omega]
      exact hp
    · have c1 : 0 < cg_cnt (fun j => cg_bt P j && !cg_bt D j) n := by
        refine Nat.pos_of_ne_zero (fun z => e (cg_ext (fun j hj => ?_)))
        cases hPj : cg_bt P j
        · exact cg_tf (fun y => absurd ((hD j hj y).symm.trans hPj) (by decide))
        · have q := cg_cnt_z z j (hP j hj hPj)
          rw [hPj] at q
          cases hDj : cg_bt D j
          · rw [hDj] at q
            exact absurd q (by decide)
          · rfl
      have hs := cg_upS hm0 c1
      have hl9 : l + 1 ≤ T := by
        rw [hs] at hl
        rw [← hl]
        exact Nat.add_le_add_left (Nat.le_add_left 1 _) l
      refine br_f e (pk_le 9 l (fun z => absurd z (by omega)) (fun _ => ?_))
      refine cg_slot (u := 9) (C := fun j => cg_bt P j && !cg_bt D j) hn hm rfl (fun j hj => ?_) (fun z => absurd z (by omega)) (fun S hS hcS _ => ?_)
      · rw [cg_open (by omega)]
        constructor
        · intro z
          refine ⟨z, fun x hx hxO => ?_⟩
          rw [cg_open (by omega), Bool.and_eq_true, Bool.not_eq_true'] at hxO
          rw [Bool.and_eq_true] at z
          exact hF x hx hxO.1 hxO.2 j hj z.1
        · exact fun z => z.1
      · have hSC : ∀ j, j < n → cg_bt S j = true → (cg_bt P j && !cg_bt D j) = true := fun j hj z => (hS j (by omega) z).2
        have e2 := cg_cnt_sub (p := fun j => cg_bt P j && !cg_bt D j) (q := cg_bt S) (n := n) hSC
        have e3 : cg_cnt (fun j => cg_bt P j && !cg_bt (D ||| S) j) n = cg_cnt (fun j => (cg_bt P j && !cg_bt D j) && !cg_bt S j) n := cg_cnt_congr (fun j _ => by
          rw [cg_or]
          cases cg_bt P j <;> cases cg_bt D j <;> cases cg_bt S j <;> rfl)
        rw [nI_1]
        refine ih (D ||| S) (l + 1) ?_ ?_ ?_ ?_
        · rw [e3]
          omega
        · intro j hj z
          rw [cg_or, Bool.or_eq_true] at z
          rcases z with z | z
          · exact hD j hj z
          · have q := (hS j hj z).2
            rw [Bool.and_eq_true] at q
            exact q.1
        · intro x hx hPx hDx y hy hPy
          rw [cg_or, Bool.or_eq_false_iff] at hDx
          exact hF x hx hPx hDx.1 y hy hPy
        · rw [e3, show cg_cnt (fun j => (cg_bt P j && !cg_bt D j) && !cg_bt S j) n = cg_cnt (fun j => cg_bt P j && !cg_bt D j) n - min m (cg_cnt (fun j => cg_bt P j && !cg_bt D j) n) by omega]
          omega
theorem cg_len {post : Int32 → Prop} {n m u v K : Nat} {P : Int32} {a1 a2 a3 a4 : Nat → Int32} (hn : n ≤ 9) (hm0 : 0 < m) (hm : m ≤ 9) (hP : ∀ j, j < 32 → cg_bt P j = true → j < n) (hK : cg_cnt (cg_bt P) n = K) (t : cg_T n P (fun j => a2 j &&& P) u v) (hmax : u < n → ∀ j, j < n → cg_bt P j = true → j ≠ u → a4 j < a4 u)
    (H0 : ¬ u < n → post (nI ((K + m - 1) / m))) (H1 : u < n → post (nI (1 + (K - min m (K - 1) + m - 1) / m))) : wpX_lengthOnList post (nI n, P, a1, a2, a3, a4) (nI m) := by
  have hKn : K ≤ n := by rw [← hK]; exact cg_cnt_le _ n
  have hz : ∀ x, x < n → cg_bt P x = true → x ≠ u → ∀ y, y < n → cg_bt P y = true → cg_bt (a2 x) y = false := by
    intro x hx hPx hxu y hy hPy
    have q : cg_bt (a2 x &&& P) y = false := by rw [show a2 x &&& P = 0 from t.1 x hx hPx hxu]; exact cg_0 y
    rw [cg_and, hPy] at q
    simpa using q
  by_cases hu : u < n
  · obtain ⟨hv, hvu, hPu, hPv, ha⟩ := t.2 hu
    have ha' : a2 u &&& P = (1 : Int32) <<< (nI v &&& 31) := ha
    have hx : ∀ y, y < n → cg_bt P y = true → cg_bt (a2 u) y = decide (y = v) := by
      intro y hy hPy
      have q : cg_bt (a2 u &&& P) y = decide (y = v) := by rw [ha']; exact cg_one v (by omega) y (by omega)
      rw [cg_and, hPy] at q
      simpa using q
    have hO : P &&& ((0 : Int32) ^^^ (-1)) = P := cg_an0 P
    have hC1 : cg_cnt (cg_bt P) n = cg_cnt (fun j => cg_bt P j && !decide (j = v)) n + 1 := by
      refine cg_cnt_del hv hPv (by simp) (fun j hj hjv => ?_)
      simp [hjv]
    have hCu : (cg_bt P u && !decide (u = v)) = true := by
      rw [hPu]
      simp
      exact fun z => hvu z.symm
    have hc0 : cg_cnt (fun j => cg_bt P j && !decide (j = v)) n ≠ 0 := fun z => absurd ((cg_cnt_z z u hu).symm.trans hCu) (by decide)
    have hX : (K - min m (K - 1) + m - 1) / m ≤ K - min m (K - 1) := cg_upLe hm0
    refine ⟨11, br_f (fun z => ?_) (br_f (by decide) ?_)⟩
    · rw [← z, cg_0] at hPu
      exact absurd hPu (by decide)
    · refine cg_slot (u := u) (C := fun j => cg_bt P j && !decide (j = v)) hn hm hO (fun j hj => ?_) (fun _ j hj hCj hju => ?_) (fun S hS hcS hSu => ?_)
      · constructor
        · intro z
          rw [Bool.and_eq_true, Bool.not_eq_true', decide_eq_false_iff_not] at z
          refine ⟨z.1, fun x hxn hPx => ?_⟩
          by_cases exu : x = u
          · rw [exu, hx j hj z.1]
            exact decide_eq_false z.2
          · exact hz x hxn hPx exu j hj z.1
        · intro z
          rw [Bool.and_eq_true, Bool.not_eq_true']
          refine ⟨z.1, ?_⟩
          rw [← hx j hj z.1]
          exact z.2 u hu hPu
      · rw [Bool.and_eq_true] at hCj
        exact hmax hu j hj hCj.1 hju
      · have hSP : ∀ j, j < 32 → cg_bt S j = true → cg_bt P j = true := by
          intro j hj z
          have q := (hS j hj z).2
          rw [Bool.and_eq_true] at q
          exact q.1
        have e2 := cg_cnt_sub (p := cg_bt P) (q := cg_bt S) (n := n) (fun j hj z => hSP j (by omega) z)
        rw [Int32.zero_or]
        refine cg_free (T := 1 + (K - min m (K - 1) + m - 1) / m) hn hm0 hm hP (by omega) (H1 hu) 10 S 1 ?_ hSP ?_ ?_
        · have := cg_cnt_le (fun j => cg_bt P j && !cg_bt S j) n
          omega
        · intro x hxn hPx hSx y hy hPy
          refine hz x hxn hPx (fun exu => ?_) y hy hPy
          rw [exu, hSu hm0 hu hCu] at hSx
          exact absurd hSx (by decide)
        · rw [show cg_cnt (fun j => cg_bt P j && !cg_bt S j) n = K - min m (K - 1) by omega]
  · refine ⟨10, cg_free (T := (K + m - 1) / m) hn hm0 hm hP ?_ (H0 hu) 10 0 0 ?_ ?_ ?_ ?_⟩
    · have := cg_upLe (c := K) hm0
      omega
    · have := cg_cnt_le (fun j => cg_bt P j && !cg_bt 0 j) n
      omega
    · exact fun j _ z => absurd ((cg_0 j).symm.trans z) (by decide)
    · exact fun x hxn hPx _ y hy hPy => hz x hxn hPx (by omega) y hy hPy
    · rw [show cg_cnt (fun j => cg_bt P j && !cg_bt 0 j) n = K from (cg_cnt_congr (fun j _ => by rw [cg_0]; cases cg_bt P j <;> rfl)).trans hK]
      omega
end
section
/-! ===== shortest, without, addTask ===== -/
def cg_ans (n m u : Nat) : Nat := if u < n ∧ (n + m - 1) / m = 1 then 2 else (n + m - 1) / m
theorem cg_tab : ∀ n, n < 10 → 2 ≤ n → ∀ m, m < 10 → 0 < m → 1 + (n - min m (n - 1) + m - 1) / m = if (n + m - 1) / m = 1 then 2 else (n + m - 1) / m := by decide +kernel
theorem cg_short {post : Int32 → St2 → Prop} {n m u v : Nat} {P : Int32} {a1 a2 a3 a4 : Nat → Int32} (hn : n ≤ 9) (hm0 : 0 < m) (hm : m ≤ 9) (g : cg_G n a2 u v) (H : ∀ Q b c, post (nI (cg_ans n m u)) (nI n, Q, a1, a2, b, c)) : wpX_shortest post (nI n, P, a1, a2, a3, a4) (nI m) := by
  have hF := cg_full n (by omega)
  have hn2 : u < n → 2 ≤ n := fun hu => by
    have := g.2 hu
    omega
  refine pk_lt m 1 (fun z => absurd z (by omega)) (fun _ => pk_le m 9 (fun _ => ?_) (fun z => absurd z (by omega)))
  generalize ((1 : Int32) <<< (nI n &&& 31)) - 1 = Q at hF ⊢
  have hPQ : ∀ j, j < 32 → cg_bt Q j = true → j < n := fun j hj z => by
    rw [hF j hj] at z
    exact of_decide_eq_true z
  have hQn : ∀ j, j < n → cg_bt Q j = true := fun j hj => by
    rw [hF j (by omega)]
    exact decide_eq_true hj
  have hK : cg_cnt (cg_bt Q) n = n := cg_cnt_all hQn
  have tQ : cg_T n Q (fun j => a2 j &&& Q) u v := by
    refine ⟨fun j hj _ hju => ?_, fun hu => ?_⟩
    · show a2 j &&& Q = 0
      rw [g.1 j hj hju, Int32.zero_and]
    · obtain ⟨hv, hvu, ha⟩ := g.2 hu
      refine ⟨hv, hvu, hQn u hu, hQn v hv, ?_⟩
      show a2 u &&& Q = _
      rw [ha]
      refine cg_ext (fun j hj => ?_)
      rw [cg_and, cg_one v (by omega) j hj]
      by_cases e : j = v
      · subst e
        rw [hQn j hv, Bool.and_true]
      · simp [e]
  have hlen : ∀ b c, (u < n → ∀ j, j < n → cg_bt Q j = true → j ≠ u → c j < c u) → wpX_lengthOnList (fun r => post r (nI n, Q, a1, a2, b, c)) (nI n, Q, a1, a2, b, c) (nI m) := by
    intro b c hc
    refine cg_len hn hm0 hm hPQ hK tQ hc (fun hu => ?_) (fun hu => ?_)
    · have e : cg_ans n m u = (n + m - 1) / m := if_neg (fun z => hu z.1)
      rw [← e]
      exact H Q b c
    · have e : cg_ans n m u = if (n + m - 1) / m = 1 then 2 else (n + m - 1) / m := by
        unfold cg_ans
        by_cases z : (n + m - 1) / m = 1
        · rw [if_pos ⟨hu, z⟩, if_pos z]
        · rw [if_neg (fun y => z y.2), if_neg z]
      rw [cg_tab n (by omega) (hn2 hu) m (by omega) hm0, ← e]
      exact H Q b c
  refine nm_e ?_
  refine pk_eq m 1 (fun e => ?_) (fun e => pk_eq m 2 (fun e2 => ?_) (fun e2 => ?_))
  · have e1 : cg_ans n m u = n := by
      subst e
      unfold cg_ans
      rw [show (n + 1 - 1) / 1 = n by omega, if_neg (fun z => by have := hn2 z.1; omega)]
    have := H Q a3 a4
    rw [e1] at this
    exact this
  · exact cg_lbl hn tQ (fun b c hc => hlen b c hc)
  · refine cg_trees hn g (br_f (by decide) ?_)
    exact cg_lbh hn g (fun c hc => hlen a3 c (fun hu j hj _ hju => hc hu j hj hju))
theorem cg_shortX {post : Int32 → St2 → Prop} {n u v : Nat} {P x4 x12 : Int32} {a1 a2 a3 a4 : Nat → Int32} (hn : n ≤ 9) (g : cg_G n a2 u v) (h4 : ((x4 < 1 ∨ ¬ x4 ≤ 9) ∧ x12 = -1) ∨ ∃ m, 0 < m ∧ m ≤ 9 ∧ x4 = nI m ∧ x12 = nI (cg_ans n m u))
    (H : ∀ Q b c, post x12 (nI n, Q, a1, a2, b, c)) : wpX_shortest post (nI n, P, a1, a2, a3, a4) x4 := by
  rcases h4 with ⟨h, e⟩ | ⟨m, hm0, hm, e4, e⟩
  · subst e
    refine br_c (fun _ => H _ _ _) (fun z => ?_)
    rcases h with h | h
    · exact absurd h z
    · exact br_f h (H _ _ _)
  · subst e4 e
    exact cg_short hn hm0 hm g H
def cg_wans (n u v w : Nat) : Nat := if n = 3 ∧ u < n ∧ w ≠ u ∧ w ≠ v then 2 else n / 2
theorem cg_wT {n w u v : Nat} {a1 b : Nat → Int32} {Q : Int32} (hn : n ≤ 9) (hw : w < n) (g : cg_G n a1 u v) (hQ : ∀ j, j < 32 → cg_bt Q j = (decide (j < n) && !decide (j = w))) (hb : ∀ j, j < n → b j = upd a1 w 0 j) :
    ∃ u', cg_T n Q (fun j => b j &&& Q) u' v ∧ (¬ u' < n → (n - 1 + 2 - 1) / 2 = cg_wans n u v w) ∧ (u' < n → 1 + (n - 1 - min 2 (n - 1 - 1) + 2 - 1) / 2 = cg_wans n u v w) := by
  by_cases hE : u < n ∧ u ≠ w ∧ v ≠ w
  · obtain ⟨hu, huw, hvw⟩ := hE
    obtain ⟨hv, hvu, ha⟩ := g.2 hu
    refine ⟨u, ⟨fun j hj hQj hju => ?_, fun _ => ⟨hv, hvu, ?_, ?_, ?_⟩⟩, fun z => absurd hu z, fun _ => ?_⟩
    · show b j &&& Q = 0
      rw [hb j hj]
      by_cases e : j = w
      · rw [e, pk_us, Int32.zero_and]
      · rw [pk_un e, g.1 j hj hju, Int32.zero_and]
    · rw [hQ u (by omega)]
      simp [hu, huw]
    · rw [hQ v (by omega)]
      simp [hv, hvw]
    · show b u &&& Q = _
      rw [hb u hu, pk_un huw, ha]
      refine cg_ext (fun j hj => ?_)
      rw [cg_and, cg_one v (by omega) j hj, hQ j hj]
      by_cases e : j = v
      · subst e
        simp [hv, hvw]
      · simp [e]
    · unfold cg_wans
      by_cases e : n = 3
      · rw [if_pos ⟨e, hu, fun z => huw z.symm, fun z => hvw z.symm⟩]
        omega
      · rw [if_neg (fun z => e z.1)]
        omega
  · refine ⟨9, ⟨fun j hj hQj _ => ?_, fun z => absurd z (by omega)⟩, fun _ => ?_, fun z => absurd z (by omega)⟩
    · show b j &&& Q = 0
      rw [hQ j (by omega)] at hQj
      have hjw : j ≠ w := by
        intro e
        rw [e] at hQj
        simp at hQj
      rw [hb j hj, pk_un hjw]
      by_cases e : j = u
      · have hu : u < n := by omega
        have hvw : v = w := by
          by_cases z : v = w
          · exact z
          · exact absurd ⟨hu, fun y => hjw (e.trans y), z⟩ hE
        rw [e, (g.2 hu).2.2, hvw]
        refine cg_ext (fun i hi => ?_)
        rw [cg_and, cg_one w (by omega) i hi, hQ i hi, cg_0]
        by_cases ei : i = w
        · simp [ei]
        · simp [ei]
      · rw [g.1 j hj e, Int32.zero_and]
    · unfold cg_wans
      rw [if_neg (fun z => hE ⟨z.2.1, fun e => z.2.2.1 e.symm, fun e => z.2.2.2 e.symm⟩)]
      omega
theorem cg_wo {post : Int32 → St2 → Prop} {n w u v : Nat} {P : Int32} {a1 a2 a3 a4 : Nat → Int32} (hn : n ≤ 9) (hw : w < n) (g : cg_G n a1 u v) (H : ∀ Q a b c d, post (nI (cg_wans n u v w)) (nI n, Q, a, b, c, d)) : wpX_without post (nI n, P, a1, a2, a3, a4) (nI w) := by
  unfold wpX_without
  refine cg_tk_y hn hw (br_f (by decide) ⟨pk_in w 9 (by omega), nm_e (nm_e ⟨pk_in w 9 (by omega), nm_e ?_⟩)⟩)
  have hQ : ∀ j, j < 32 → cg_bt ((((1 : Int32) <<< (nI n &&& 31)) - 1) &&& (((1 : Int32) <<< (nI w &&& 31)) ^^^ (-1))) j = (decide (j < n) && !decide (j = w)) := fun j hj => by
    rw [cg_and, cg_full n (by omega) j hj, cg_not _ hj, cg_one w (by omega) j hj]
  generalize (((1 : Int32) <<< (nI n &&& 31)) - 1) &&& (((1 : Int32) <<< (nI w &&& 31)) ^^^ (-1)) = Q at hQ ⊢
  rw [nI_clamp (show w < 2 ^ 31 by omega)]
  refine cg_close hn (fun b hb => ?_)
  have np : cg_NP n (upd a1 w 0) := by
    intro x hx y hy hbt
    have hz : a1 y = 0 := by
      by_cases e : x = w
      · rw [e, pk_us, cg_0] at hbt
        exact absurd hbt (by decide)
      · rw [pk_un e] at hbt
        exact cg_gz hn g hx hy hbt
    by_cases e : y = w
    · rw [e, pk_us]
    · rw [pk_un e, hz]
  obtain ⟨u', tb, r0, r1⟩ := cg_wT hn hw g hQ (hb np)
  have hK : cg_cnt (cg_bt Q) n = n - 1 := by
    have q := cg_cnt_del (p := fun _ => true) (q := cg_bt Q) hw rfl (by rw [hQ w (by omega)]; simp) (fun j hj hjw => by rw [hQ j (by omega)]; simp [hj, hjw])
    rw [cg_cnt_all (fun _ _ => rfl)] at q
    omega
  refine cg_lbl hn tb (fun c d hd => ?_)
  refine cg_len (m := 2) hn (by omega) (by omega) (fun j hj z => ?_) hK tb hd (fun hu => ?_) (fun hu => ?_)
  · rw [hQ j hj, Bool.and_eq_true] at z
    exact of_decide_eq_true z.1
  · rw [r0 hu]
    exact ⟨pk_in w 9 (by omega), nm_e (cg_close hn (fun b' _ => H _ _ _ _ _))⟩
  · rw [r1 hu]
    exact ⟨pk_in w 9 (by omega), nm_e (cg_close hn (fun b' _ => H _ _ _ _ _))⟩
theorem cg_at {post : Int32 → St2 → Prop} {n : Nat} {P : Int32} {a1 a2 a3 a4 : Nat → Int32} (hn : n ≤ 9) (H9 : n = 9 → post (-3) (nI n, P, a1, a2, a3, a4)) (H : n < 9 → ∀ a b, post (nI n) (nI (n + 1), P, a, b, a3, a4)) : wpX_addTask post (nI n, P, a1, a2, a3, a4) := by
  refine pk_lt n 9 (fun z => ⟨pk_in n 9 z, nm_e (nm_r (nI_1 n) (cg_close (by omega) (fun b _ => ?_)))⟩) (fun z => H9 (by omega))
  have h := H z
  rw [← nI_pred] at h
  exact h _ b
end
section
/-! ===== the law, from its end ===== -/
/-- the third argument is a task, or not -/
def cg_W (n : Nat) (x3 x10 : Int32) : Prop := (x10 = 0 ∧ (x3 < 0 ∨ nI n ≤ x3)) ∨ (x10 = 1 ∧ ∃ w, w < n ∧ x3 = nI w)
/-- the order was taken, or not -/
def cg_V (n u v : Nat) (x1 x2 x8 : Int32) : Prop := (x8 = 0 ∧ ¬ u < n) ∨ (x8 = 1 ∧ u < n ∧ x1 = nI u ∧ x2 = nI v)
theorem cg_306 {post : Int32 → St0 → Prop} {mc ms kc ks n : Nat} {z0 z1 P : Int32} {a1 a2 a3 a4 : Nat → Int32} (hn : n ≤ 9) (hz : z1 = z0) (hp : post 1 ()) : wL_lawOf_306 post mc ms (nI n) z0 z1 kc ks (nI n) P a1 a2 a3 a4 := by
  refine br_t hz (cg_at hn (fun e => ?_) (fun h a b => ?_))
  · exact pk_eq n 9 (fun _ => br_t rfl hp) (fun z => absurd e z)
  · exact pk_eq n 9 (fun z => absurd z (by omega)) (fun _ => br_t rfl hp)
theorem cg_302 {post : Int32 → St0 → Prop} {mc ms kc ks n : Nat} {z0 P : Int32} {a1 a2 a3 a4 : Nat → Int32} (hn : n ≤ 9) (hz : z0 = nI (n / 2)) (hp : post 1 ()) : wL_lawOf_302 post mc ms (nI n) z0 kc ks (nI n) P a1 a2 a3 a4 := by
  have e : nI n / nI 2 = nI (n / 2) := pk_div (by omega) (by omega) (by omega)
  exact ⟨by decide, cg_306 hn (hz.trans e.symm) hp⟩
theorem cg_257 {post : Int32 → St0 → Prop} {mc ms kc ks n u v : Nat} {x1 x2 x3 x8 x10 z0 z1 P : Int32} {a1 a2 a3 a4 : Nat → Int32} (hn : n ≤ 9) (hz : z1 = z0) (g : cg_G n a1 u v) (hW : cg_W n x3 x10) (hV : cg_V n u v x1 x2 x8) (hp : post 1 ()) :
    wL_lawOf_257 post mc ms x1 x2 x3 (nI n) x8 x10 z0 z1 kc ks (nI n) P a1 a2 a3 a4 := by
  refine br_t hz ?_
  rcases hW with ⟨e, h⟩ | ⟨e, w, hw, e2⟩
  · unfold wpX_without
    exact cg_tk_n h (br_t rfl (br_t e (cg_306 hn rfl hp)))
  · subst e2
    refine cg_wo hn hw g (fun Q a b c d => br_f (by rw [e]; decide) ?_)
    refine pk_eq n 3 (fun e3 => ?_) (fun e3 => cg_302 hn (by unfold cg_wans; rw [if_neg (fun z => e3 z.1)]) hp)
    rcases hV with ⟨e8, hu⟩ | ⟨e8, hu, ex1, ex2⟩
    · exact br_t e8 (cg_302 hn (by unfold cg_wans; rw [if_neg (fun z => hu z.2.1)]) hp)
    · have hv := (g.2 hu).1
      subst ex1 ex2
      refine br_f (by rw [e8]; decide) (pk_eq w u (fun e => cg_302 hn (by unfold cg_wans; rw [if_neg (fun z => z.2.2.1 e)]) hp) (fun eu => pk_eq w v (fun e => cg_302 hn (by unfold cg_wans; rw [if_neg (fun z => z.2.2.2 e)]) hp) (fun ev => cg_306 hn (by unfold cg_wans; rw [if_pos ⟨e3, hu, eu, ev⟩]; rfl) hp)))
/-- the second addOrder, on what stands then -/
def cg_S (n : Nat) (a1 a2 : Nat → Int32) (x1 x2 x8 x9 : Int32) : Prop := ∀ (q : Int32 → St2 → Prop) (Q : Int32) (b c : Nat → Int32), q (if x8 = 0 then x9 else -4) (nI n, Q, a1, a2, b, c) → wpX_addOrder q (nI n, Q, a1, a2, b, c) x2 x1
theorem cg_224 {post : Int32 → St0 → Prop} {mc ms kc ks n u v : Nat} {x1 x2 x3 x4 x8 x9 x10 x12 P : Int32} {a1 a2 a3 a4 : Nat → Int32} (hn : n ≤ 9) (g1 : cg_G n a1 u v) (g2 : cg_G n a2 u v) (hS : cg_S n a1 a2 x1 x2 x8 x9) (hW : cg_W n x3 x10) (hV : cg_V n u v x1 x2 x8) (hp : post 1 ())
    (h4 : ((x4 < 1 ∨ ¬ x4 ≤ 9) ∧ x12 = -1) ∨ ∃ m, 0 < m ∧ m ≤ 9 ∧ x4 = nI m ∧ x12 = nI (cg_ans n m u)) :
    wL_lawOf_224 post mc ms x1 x2 x3 x4 (nI n) x8 x9 x10 x12 kc ks (nI n) P a1 a2 a3 a4 := by
  refine cg_shortX hn g2 h4 (fun Q b c => br_t rfl (hS _ Q b c ?_))
  have hV' := hV
  rcases hV' with ⟨e8, hu⟩ | ⟨e8, hu, ex1, ex2⟩
  · exact br_t e8 (cg_257 hn (if_pos e8) g1 hW hV hp)
  · have n8 : ¬ x8 = 0 := by rw [e8]; decide
    exact br_f n8 (cg_257 hn (if_neg n8) g1 hW hV hp)
theorem cg_208 {post : Int32 → St0 → Prop} {mc ms kc ks n u v : Nat} {x1 x2 x3 x4 x8 x9 x10 z0 P : Int32} {a1 a2 a3 a4 : Nat → Int32} (hn : n ≤ 9) (g1 : cg_G n a1 u v) (g2 : cg_G n a2 u v) (hS : cg_S n a1 a2 x1 x2 x8 x9) (hW : cg_W n x3 x10) (hV : cg_V n u v x1 x2 x8) (hp : post 1 ())
    (h4 : ((x4 < 1 ∨ ¬ x4 ≤ 9) ∧ z0 = -1) ∨ ∃ m, 0 < m ∧ m ≤ 9 ∧ x4 = nI m ∧ z0 = nI ((n + m - 1) / m)) :
    wL_lawOf_208 post mc ms x1 x2 x3 x4 (nI n) x8 x9 x10 z0 kc ks (nI n) P a1 a2 a3 a4 := by
  have hV' := hV
  rcases hV' with ⟨e8, hu⟩ | ⟨e8, hu, ex1, ex2⟩
  · refine br_t e8 (cg_224 hn g1 g2 hS hW hV hp ?_)
    rcases h4 with h | ⟨m, hm0, hm, e4, e⟩
    · exact Or.inl h
    · refine Or.inr ⟨m, hm0, hm, e4, ?_⟩
      unfold cg_ans
      rw [if_neg (fun z => hu z.1)]
      exact e
  · refine br_f (by rw [e8]; decide) (br_c (fun z1 => cg_224 hn g1 g2 hS hW hV hp ?_) (fun z1 => cg_224 hn g1 g2 hS hW hV hp ?_))
    · rcases h4 with ⟨_, e⟩ | ⟨m, hm0, hm, e4, e⟩
      · rw [e] at z1
        exact absurd z1 (by decide)
      · have hd := Nat.div_le_self (n + m - 1) m
        have e1 : (n + m - 1) / m = 1 := (nI_eq (by omega) (by omega)).mp (e.symm.trans z1)
        refine Or.inr ⟨m, hm0, hm, e4, ?_⟩
        unfold cg_ans
        rw [if_pos ⟨hu, e1⟩]
        rfl
    · rcases h4 with h | ⟨m, hm0, hm, e4, e⟩
      · exact Or.inl h
      · refine Or.inr ⟨m, hm0, hm, e4, ?_⟩
        unfold cg_ans
        rw [if_neg (fun z => z1 (by rw [e, z.2]; rfl))]
        exact e
theorem cg_m {x : Int32} (h1 : ¬ x < 1) (h9 : x ≤ 9) : ∃ m, 0 < m ∧ m ≤ 9 ∧ x = nI m := by
  have h0 : ¬ x < 0 := by
    intro z
    refine h1 ?_
    rw [Int32.lt_iff_toInt_lt] at z ⊢
    have e0 : (0 : Int32).toInt = 0 := by decide
    have e1 : (1 : Int32).toInt = 1 := by decide
    omega
  obtain ⟨m, hm, e⟩ := nI_of2 (M := 9) (n := 9) (by decide) h0 h9
  refine ⟨m, Nat.pos_of_ne_zero (fun z => h1 ?_), hm, e⟩
  rw [e, z]
  decide
theorem cg_176 {post : Int32 → St0 → Prop} {mc ms kc ks n u v : Nat} {x1 x2 x3 x4 x8 x9 x10 z0 z1 P : Int32} {a1 a2 a3 a4 : Nat → Int32} (hn : n ≤ 9) (hz : z1 = z0) (g1 : cg_G n a1 u v) (g2 : cg_G n a2 u v) (hS : cg_S n a1 a2 x1 x2 x8 x9) (hW : cg_W n x3 x10) (hV : cg_V n u v x1 x2 x8) (hp : post 1 ()) :
    wL_lawOf_176 post mc ms x1 x2 x3 x4 (nI n) x8 x9 x10 z0 z1 kc ks (nI n) P a1 a2 a3 a4 := by
  refine br_t hz (br_c (fun z => ?_) (fun z => br_c (fun z2 => ?_) (fun z2 => ?_)))
  · exact cg_208 hn g1 g2 hS hW hV hp (Or.inl ⟨Or.inl z, rfl⟩)
  · obtain ⟨m, hm0, hm, e⟩ := cg_m z z2
    subst e
    have e1 : nI n + nI m - nI 1 = nI (n + m - 1) := by rw [nI_add, pk_sub (by omega)]
    have e2 : (nI n + nI m - 1) / nI m = nI ((n + m - 1) / m) := by
      have q : nI (n + m - 1) / nI m = nI ((n + m - 1) / m) := pk_div (by omega) hm0 (by omega)
      rw [← e1] at q
      exact q
    exact ⟨nI_ne0 hm0 (by omega), cg_208 hn g1 g2 hS hW hV hp (Or.inr ⟨m, hm0, hm, rfl, e2⟩)⟩
  · exact cg_208 hn g1 g2 hS hW hV hp (Or.inl ⟨Or.inr z2, rfl⟩)
/-- what the first two arguments make of the law's flags -/
def cg_X (n u v : Nat) (x1 x2 x8 x9 : Int32) : Prop :=
  (u = 9 ∧ x8 = 0 ∧ ((x9 = -1 ∧ ((x1 < 0 ∨ nI n ≤ x1) ∨ (x2 < 0 ∨ nI n ≤ x2))) ∨ (x9 = -4 ∧ ∃ i, i < n ∧ x1 = nI i ∧ x2 = nI i))) ∨
  (u < n ∧ v < n ∧ u ≠ v ∧ x1 = nI u ∧ x2 = nI v ∧ x8 = 1 ∧ x9 = 1)
theorem cg_X_V {n u v : Nat} {x1 x2 x8 x9 : Int32} (hn : n ≤ 9) (h : cg_X n u v x1 x2 x8 x9) : cg_V n u v x1 x2 x8 := by
  rcases h with ⟨e, e8, _⟩ | ⟨hu, hv, huv, e1, e2, e8, e9⟩
  · exact Or.inl ⟨e8, by omega⟩
  · exact Or.inr ⟨e8, hu, e1, e2⟩
theorem cg_addX {q : Int32 → St2 → Prop} {n u v : Nat} {x1 x2 x8 x9 P : Int32} {a3 a4 : Nat → Int32} (hn : n ≤ 9) (h : cg_X n u v x1 x2 x8 x9) (H : ∀ a1 a2, cg_G n a1 u v → cg_G n a2 u v → cg_S n a1 a2 x1 x2 x8 x9 → q x9 (nI n, P, a1, a2, a3, a4)) :
    wpX_addOrder q (nI n, P, (fun _ => 0), (fun _ => 0), a3, a4) x1 x2 := by
  have g0 : u = 9 → cg_G n (fun _ => 0) u v := fun e => ⟨fun j hj hju => rfl, fun z => absurd z (by omega)⟩
  rcases h with ⟨e, e8, h⟩ | ⟨hu, hv, huv, e1, e2, e8, e9⟩
  · rcases h with ⟨e9, h⟩ | ⟨e9, i, hi, ex1, ex2⟩
    · subst e9
      refine cg_addN hn h (H _ _ (g0 e) (g0 e) (fun q' Q b c hq => cg_addN hn (h.symm) ?_))
      rw [if_pos e8] at hq
      exact hq
    · subst e9 ex1 ex2
      refine cg_addC hn hi (H _ _ (g0 e) (g0 e) (fun q' Q b c hq => cg_addC hn hi ?_))
      rw [if_pos e8] at hq
      exact hq
  · subst e1 e2 e8 e9
    refine cg_add1 hn hu hv huv (fun a1 a2 h1 h2 h3 h4 => H a1 a2 ⟨fun j _ hj => h1 j hj, fun _ => ⟨hv, fun z => huv z.symm, h2⟩⟩ ⟨fun j _ hj => h3 j hj, fun _ => ⟨hv, fun z => huv z.symm, h4⟩⟩ (fun q' Q b c hq => cg_add2 hn hu hv huv h4 ?_))
    rw [if_neg (by decide)] at hq
    exact hq
theorem cg_120 {post : Int32 → St0 → Prop} {n u v : Nat} {x0 x1 x2 x3 x4 x8 x9 z0 : Int32} (hn : n ≤ 9) (hI : ∀ q : St2 → Prop, q (nI n, 0, (fun _ => 0), (fun _ => 0), (fun _ => 0), (fun _ => 0)) → wpX_init q 4 36 (0, 0) x0) (hX : cg_X n u v x1 x2 x8 x9) (hW : cg_W n x3 z0) (hp : post 1 ()) :
    wL_lawOf_120 post 30 480 x0 x1 x2 x3 x4 (nI n) x8 x9 z0 0 0 := by
  refine ⟨by omega, by omega, 4, 36, by omega, by omega, hI _ ?_⟩
  refine cg_addX hn hX (fun a1 a2 g1 g2 hS => br_t rfl ?_)
  have hV := cg_X_V hn hX
  have hV' := hV
  have hW' := hW
  rcases hW' with ⟨e, h⟩ | ⟨e, w, hw, e2⟩
  · unfold wpX_height
    exact cg_tk_n h (br_t rfl (br_t e (cg_176 hn rfl g1 g2 hS hW hV hp)))
  · subst e2
    have n0 : ¬ z0 = 0 := by rw [e]; decide
    unfold wpX_height
    refine cg_tk_y hn hw (br_f (by decide) (cg_hofG hn g2 hw (fun eu => br_f n0 ?_) (fun eu => br_f n0 ?_)))
    · rcases hV' with ⟨e8, hu⟩ | ⟨e8, hu, ex1, ex2⟩
      · exact br_t e8 (cg_176 hn rfl g1 g2 hS hW hV hp)
      · refine br_f (by rw [e8]; decide) (br_f (fun z => eu ?_) (cg_176 hn rfl g1 g2 hS hW hV hp))
        rw [ex1] at z
        exact (nI_eq (by omega) (by omega)).mp z
    · rcases hV' with ⟨e8, hu⟩ | ⟨e8, hu, ex1, ex2⟩
      · exact absurd (show u < n by omega) hu
      · exact br_f (by rw [e8]; decide) (br_t (by rw [ex1, eu]) (cg_176 hn rfl g1 g2 hS hW hV hp))
theorem cg_103 {post : Int32 → St0 → Prop} {n u v : Nat} {x0 x1 x2 x3 x4 x8 x9 : Int32} (hn : n ≤ 9) (hI : ∀ q : St2 → Prop, q (nI n, 0, (fun _ => 0), (fun _ => 0), (fun _ => 0), (fun _ => 0)) → wpX_init q 4 36 (0, 0) x0) (hX : cg_X n u v x1 x2 x8 x9) (hp : post 1 ()) :
    wL_lawOf_103 post 30 480 x0 x1 x2 x3 x4 (nI n) x8 x9 0 0 := by
  refine br_c (fun z => ?_) (fun z => br_c (fun z2 => ?_) (fun z2 => ?_))
  · exact cg_120 hn hI hX (Or.inl ⟨rfl, Or.inl z⟩) hp
  · exact cg_120 hn hI hX (Or.inl ⟨rfl, Or.inr z2⟩) hp
  · refine cg_120 hn hI hX (Or.inr ⟨rfl, ?_⟩) hp
    rcases pk_ix x3 (n := n) (by omega) with h | h | h
    · exact absurd h z
    · exact absurd h z2
    · exact h
/-- a task, or not: the law's flag -/
def cg_F (n : Nat) (x f : Int32) : Prop := (f = 0 ∧ (x < 0 ∨ nI n ≤ x)) ∨ (f = 1 ∧ ∃ i, i < n ∧ x = nI i)
theorem cg_54 {post : Int32 → St0 → Prop} {n : Nat} {x0 x1 x2 x3 x4 x6 z0 : Int32} (hn : n ≤ 9) (hI : ∀ q : St2 → Prop, q (nI n, 0, (fun _ => 0), (fun _ => 0), (fun _ => 0), (fun _ => 0)) → wpX_init q 4 36 (0, 0) x0) (h1 : cg_F n x1 x6) (h2 : cg_F n x2 z0) (hp : post 1 ()) :
    wL_lawOf_54 post 30 480 x0 x1 x2 x3 x4 (nI n) x6 z0 0 0 := by
  rcases h1 with ⟨e6, b1⟩ | ⟨e6, i, hi, ex1⟩
  · have t : wL_lawOf_103 post 30 480 x0 x1 x2 x3 x4 (nI n) 0 (-1) 0 0 := cg_103 (u := 9) (v := 0) hn hI (Or.inl ⟨rfl, rfl, Or.inl ⟨rfl, Or.inl b1⟩⟩) hp
    exact br_t e6 (br_t e6 t)
  · have n6 : ¬ x6 = 0 := by rw [e6]; decide
    rcases h2 with ⟨e7, b2⟩ | ⟨e7, j, hj, ex2⟩
    · have t : wL_lawOf_103 post 30 480 x0 x1 x2 x3 x4 (nI n) 0 (-1) 0 0 := cg_103 (u := 9) (v := 0) hn hI (Or.inl ⟨rfl, rfl, Or.inl ⟨rfl, Or.inr b2⟩⟩) hp
      exact br_f n6 (br_t e7 (br_f n6 (br_t e7 t)))
    · have n7 : ¬ z0 = 0 := by rw [e7]; decide
      by_cases e : x1 = x2
      · have t : wL_lawOf_103 post 30 480 x0 x1 x2 x3 x4 (nI n) 0 (-4) 0 0 := cg_103 (u := 9) (v := 0) hn hI (Or.inl ⟨rfl, rfl, Or.inr ⟨rfl, i, hi, ex1, e.symm.trans ex1⟩⟩) hp
        exact br_f n6 (br_f n7 (br_t e (br_f n6 (br_f n7 (br_t e t)))))
      · have t : wL_lawOf_103 post 30 480 x0 x1 x2 x3 x4 (nI n) 1 1 0 0 := cg_103 (u := i) (v := j) hn hI (Or.inr ⟨hi, hj, fun z => e (by rw [ex1, ex2, z]), ex1, ex2, rfl, rfl⟩) hp
        exact br_f n6 (br_f n7 (br_f e (br_f n6 (br_f n7 (br_f e t)))))
theorem cg_fl {n : Nat} {x : Int32} (hn : n ≤ 9) (h : ¬ x < 0) (h2 : ¬ nI n ≤ x) : cg_F n x 1 := by
  rcases pk_ix x (n := n) (by omega) with g | g | g
  · exact absurd g h
  · exact absurd g h2
  · exact Or.inr ⟨rfl, g⟩
theorem cg_37 {post : Int32 → St0 → Prop} {n : Nat} {x0 x1 x2 x3 x4 z0 : Int32} (hn : n ≤ 9) (hI : ∀ q : St2 → Prop, q (nI n, 0, (fun _ => 0), (fun _ => 0), (fun _ => 0), (fun _ => 0)) → wpX_init q 4 36 (0, 0) x0) (h1 : cg_F n x1 z0) (hp : post 1 ()) :
    wL_lawOf_37 post 30 480 x0 x1 x2 x3 x4 (nI n) z0 0 0 := by
  refine br_c (fun z => ?_) (fun z => br_c (fun z2 => ?_) (fun z2 => ?_))
  · exact cg_54 hn hI h1 (Or.inl ⟨rfl, Or.inl z⟩) hp
  · exact cg_54 hn hI h1 (Or.inl ⟨rfl, Or.inr z2⟩) hp
  · exact cg_54 hn hI h1 (cg_fl hn z z2) hp
theorem cg_20 {post : Int32 → St0 → Prop} {n : Nat} {x0 x1 x2 x3 x4 : Int32} (hn : n ≤ 9) (hI : ∀ q : St2 → Prop, q (nI n, 0, (fun _ => 0), (fun _ => 0), (fun _ => 0), (fun _ => 0)) → wpX_init q 4 36 (0, 0) x0) (hp : post 1 ()) :
    wL_lawOf_20 post 30 480 x0 x1 x2 x3 x4 (nI n) 0 0 := by
  refine br_c (fun z => ?_) (fun z => br_c (fun z2 => ?_) (fun z2 => ?_))
  · exact cg_37 hn hI (Or.inl ⟨rfl, Or.inl z⟩) hp
  · exact cg_37 hn hI (Or.inl ⟨rfl, Or.inr z2⟩) hp
  · exact cg_37 hn hI (cg_fl hn z z2) hp
theorem cg_lawOf {post : Int32 → St0 → Prop} {p0 p1 p2 p3 p4 : Int32} (hp : post 1 ()) : wpL_lawOf post 30 480 () p0 p1 p2 p3 p4 := by
  refine br_c (fun z => br_c (fun z2 => ?_) (fun z2 => ?_)) (fun z => ?_)
  · obtain ⟨n, hn, e⟩ := nI_of2 (M := 9) (n := 9) (by decide) (Int32.not_lt.mpr z) z2
    subst e
    exact cg_20 hn (fun q hq => ⟨by omega, by omega, by omega, by omega, by omega, by omega, by omega, by omega, br_t z (br_t z2 hq)⟩) hp
  · exact cg_20 (n := 9) (by omega) (fun q hq => ⟨by omega, by omega, by omega, by omega, by omega, by omega, by omega, by omega, br_t z (br_f z2 hq)⟩) hp
  · exact cg_20 (n := 0) (by omega) (fun q hq => ⟨by omega, by omega, by omega, by omega, by omega, by omega, by omega, by omega, br_f z hq⟩) hp
theorem cg_cell {post : Int32 → Prop} {L : Nat} {xs : Nat → Int32} (i : Nat) (hi : i < 5) (hL : L ≤ 5) (H : ∀ r, post r) : wpL_cellAt post L xs () (nI i) :=
  pk_le L i (fun _ => H _) (fun z => ⟨pk_in i L z, H _⟩)
theorem i_vc (xs : Nat → Int32) (L : Nat) (hL : L ≤ 5) : wpL_law (fun r => r = 1) L xs :=
  cg_cell 0 (by omega) hL (fun _ => cg_cell 1 (by omega) hL (fun _ => cg_cell 2 (by omega) hL (fun _ => cg_cell 3 (by omega) hL (fun _ => cg_cell 4 (by omega) hL (fun _ => ⟨30, 480, by omega, by omega, cg_lawOf rfl⟩)))))
end
