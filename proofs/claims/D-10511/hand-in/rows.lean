section
/-- a flag as the int that the program holds for it -/
def rq_b (b : Bool) : Int32 := cond b 1 0
/-- a word's bit at a code, as the program reads it -/
def rq_bit (w : Int64) (k : Int32) : Int64 := ((w.toUInt64 >>> ((k &&& 63).toInt64.toUInt64 &&& Int64.toUInt64 63)).toInt64) &&& 1
theorem rq_bit0 : ∀ k, k < 8 → rq_bit 0 (nI k) = 0 := by decide +kernel
theorem rq_bit1 : ∀ k, k < 8 → (rq_bit 1 (nI k) = 0 ↔ k ≠ 0) := by decide +kernel
theorem rq_bit128 : ∀ k, k < 8 → (rq_bit 128 (nI k) = 0 ↔ k ≠ 7) := by decide +kernel
theorem rq_ix11 : ∀ i, i < 3 → nI i * 11 = nI (11 * i) := by decide +kernel
theorem rq_ixw : ∀ i, i < 3 → ∀ w, w < 11 → nI i * 11 + nI w = nI (11 * i + w) := by decide +kernel
theorem rq_word : ∀ i, i < 3 → ∀ l, l < 2 → ∀ k, k < 8 → nI i * 11 + nI l + (nI k >>> ((6 : Int32) &&& 31)) = nI (11 * i + l) := by decide +kernel
theorem rq_cell : ∀ i, i < 3 → nI i * 3 + 0 = nI (3 * i) := by decide +kernel
theorem rq_div3 : ∀ i, i < 3 → nI (3 * i) / 3 = nI i := by decide +kernel
theorem rq_byte : ∀ v, v < 8 → (nI v).toInt8.toInt32 = nI v := by decide +kernel
theorem rq_h0 : ∀ g, g < 7 → (((0 : Int32) >>> (nI g &&& 31)) &&& 1) = 0 := by decide +kernel
theorem rq_h1 : ∀ g, g < 7 → ((((1 : Int32) >>> (nI g &&& 31)) &&& 1) = 0 ↔ g ≠ 0) := by decide +kernel
theorem rq_nx : ∀ g, g < 8 → (0 : Int32) ||| (nI g <<< (((3 : Int32) * 0) &&& 31)) = nI g := by decide +kernel
theorem rq_or0 : (0 : Int64) ||| ((1 : Int64) <<< ((nI 0 &&& 63).toInt64 &&& 63)) = 1 := by decide +kernel
theorem rq_or7 : (0 : Int64) ||| ((1 : Int64) <<< ((nI 7 &&& 63).toInt64 &&& 63)) = 128 := by decide +kernel
theorem rq_w : ∀ q, q < 512 → nI q &&& 3 = nI (q % 4) ∧ (nI q >>> ((2 : Int32) &&& 31)) &&& 7 = nI (q / 4 % 8) ∧ (nI q >>> ((5 : Int32) &&& 31)) &&& 7 = nI (q / 32 % 8) := by decide +kernel
theorem rq_fill {s : Nat → Int32} {i k : Nat} {v x : Int32} (hk : k = i) (h : ∀ j, j < i → s j = v) (hx : x = v) : ∀ j, j < i + 1 → upd s k x j = v := by
  intro j hj
  rw [hk]
  by_cases e : j = i
  · rw [e, pk_us, hx]
  · rw [pk_un e]
    exact h j (by omega)
section
variable {p : Int32} {K A B S WK WA WB NG : Nat → Int32} {W BF : Nat → Int64} {BD TT : Nat → Int32}
theorem rq_ruleT {post : Int32 → Prop} {i : Nat} (hi : i < 3) (h : post 1) : wpX_isRule post () (nI i) :=
  pk_lt i 0 (fun z => absurd z (by omega)) (fun _ => pk_le 3 i (fun z => absurd z (by omega)) (fun _ => h))
theorem rq_ruleF {post : Int32 → Prop} {r : Int32} (hr : r < 0 ∨ nI 3 ≤ r) (h : post 0) : wpX_isRule post () r := by
  rcases hr with hr | hr
  · exact br_t hr h
  · exact br_c (fun _ => h) (fun _ => br_t hr h)
theorem rq_has {post : Int32 → Prop} (g : Nat) (hg : g < 7) {q : Int32} (h0 : ((p >>> (nI g &&& 31)) &&& 1) = 0 → post 0) (h1 : ¬ ((p >>> (nI g &&& 31)) &&& 1) = 0 → post 1) (e : q = nI g := by rfl) :
    wpX_has post (p, K, A, B, S, WK, WA, WB, NG, W, BF, BD, TT) q := by
  subst e
  exact pk_lt g 0 (fun z => absurd z (by omega)) (fun _ => pk_le 7 g (fun z => absurd z (by omega)) (fun _ => br_c h0 h1))
theorem rq_has0 {post : Int32 → Prop} (g : Nat) (hg : g < 7) {q : Int32} (h : post 0) (e : q = nI g := by rfl) :
    wpX_has post (0, K, A, B, S, WK, WA, WB, NG, W, BF, BD, TT) q :=
  rq_has g hg (fun _ => h) (fun z => absurd (rq_h0 g hg) z) e
theorem rq_has1 {post : Int32 → Prop} {q : Int32} (h : post 1) (e : q = nI 0 := by rfl) :
    wpX_has post (1, K, A, B, S, WK, WA, WB, NG, W, BF, BD, TT) q :=
  rq_has 0 (by omega) (fun z => absurd rfl ((rq_h1 0 (by omega)).mp z)) (fun _ => h) e
theorem rq_hasN {post : Int32 → Prop} (g : Nat) (hg : g < 7) (h0 : g ≠ 0) {q : Int32} (h : post 0) (e : q = nI g := by rfl) :
    wpX_has post (1, K, A, B, S, WK, WA, WB, NG, W, BF, BD, TT) q :=
  rq_has g hg (fun _ => h) (fun z => absurd ((rq_h1 g hg).mpr h0) z) e
theorem rq_isIn {post : Int32 → Prop} (i l k : Nat) {q0 q1 q2 : Int32} (hi : i < 3) (hl : l < 2) (hk : k < 8)
    (h0 : rq_bit (W (11 * i + l)) (nI k) = 0 → post 0) (h1 : ¬ rq_bit (W (11 * i + l)) (nI k) = 0 → post 1)
    (e0 : q0 = nI i := by rfl) (e1 : q1 = nI l := by rfl) (e2 : q2 = nI k := by rfl) :
    wpX_isIn post (p, K, A, B, S, WK, WA, WB, NG, W, BF, BD, TT) q0 q1 q2 := by
  subst e0 e1 e2
  unfold wpX_isIn wpX_wordOf
  dsimp only
  rw [rq_word i hi l hl k hk, nI_clamp (show 11 * i + l < 2 ^ 31 by omega)]
  exact ⟨pk_in (11 * i + l) 33 (by omega), br_c h0 h1⟩
theorem rq_wasIn {post : Int32 → Prop} (i l k : Nat) {q0 q1 q2 : Int32} (hi : i < 3) (hl : l < 2) (hk : k < 8)
    (h0 : rq_bit (BF (11 * i + l)) (nI k) = 0 → post 0) (h1 : ¬ rq_bit (BF (11 * i + l)) (nI k) = 0 → post 1)
    (e0 : q0 = nI i := by rfl) (e1 : q1 = nI l := by rfl) (e2 : q2 = nI k := by rfl) :
    wpX_wasIn post (p, K, A, B, S, WK, WA, WB, NG, W, BF, BD, TT) q0 q1 q2 := by
  subst e0 e1 e2
  unfold wpX_wasIn wpX_wordOf
  dsimp only
  rw [rq_word i hi l hl k hk, nI_clamp (show 11 * i + l < 2 ^ 31 by omega)]
  exact ⟨pk_in (11 * i + l) 33 (by omega), br_c h0 h1⟩
theorem rq_put {post : St2 → Prop} (i l k : Nat) {q0 q1 q2 : Int32} (hi : i < 3) (hl : l < 2) (hk : k < 8)
    (h : post (p, K, A, B, S, WK, WA, WB, NG, vp_updL W (11 * i + l) (W (11 * i + l) ||| ((1 : Int64) <<< ((nI k &&& 63).toInt64 &&& 63))), BF, BD, TT))
    (e0 : q0 = nI i := by rfl) (e1 : q1 = nI l := by rfl) (e2 : q2 = nI k := by rfl) :
    wpX_put post (p, K, A, B, S, WK, WA, WB, NG, W, BF, BD, TT) q0 q1 q2 := by
  subst e0 e1 e2
  unfold wpX_put wpX_wordOf
  dsimp only
  rw [rq_word i hi l hl k hk, nI_clamp (show 11 * i + l < 2 ^ 31 by omega)]
  exact ⟨pk_in (11 * i + l) 33 (by omega), pk_in (11 * i + l) 33 (by omega), nm_e h⟩
end
end
section
/-- whether the fact (kind kd, numbers a, b) fits the condition (kind wk, demands x, y) with nothing bound -/
def rq_hit (kd wk x y a b : Nat) : Prop := kd = wk ∧ (3 < x ∨ x = a) ∧ (3 < y ∨ y = b) ∧ (x < 4 ∨ x = 7 ∨ x ≠ y ∨ a = b)
section
variable {p : Int32} {K A B S WK WA WB NG : Nat → Int32} {W BF : Nat → Int64} {BD TT : Nat → Int32}
theorem rq_meets {post : Int32 → St2 → Prop} (x v : Nat) {q0 q1 : Int32} (hx : x < 8) (hv : v < 4)
    (h1 : x < 4 → x = v → post 1 (p, K, A, B, S, WK, WA, WB, NG, W, BF, BD, TT))
    (h2 : x < 4 → x ≠ v → post 0 (p, K, A, B, S, WK, WA, WB, NG, W, BF, BD, TT))
    (h3 : x = 7 → post 1 (p, K, A, B, S, WK, WA, WB, NG, W, BF, BD, TT))
    (h4 : 4 ≤ x → x < 7 → TT (x - 4) = 4 → post 1 (p, K, A, B, S, WK, WA, WB, NG, W, BF, BD, upd TT (x - 4) (nI v)))
    (h5 : 4 ≤ x → x < 7 → ¬ TT (x - 4) = 4 → TT (x - 4) = nI v → post 1 (p, K, A, B, S, WK, WA, WB, NG, W, BF, BD, TT))
    (h6 : 4 ≤ x → x < 7 → ¬ TT (x - 4) = 4 → ¬ TT (x - 4) = nI v → post 0 (p, K, A, B, S, WK, WA, WB, NG, W, BF, BD, TT))
    (e0 : q0 = nI x) (e1 : q1 = nI v) :
    wpX_meets post (p, K, A, B, S, WK, WA, WB, NG, W, BF, BD, TT) q0 q1 := by
  subst e0 e1
  unfold wpX_meets wX_meets_11
  dsimp only
  refine pk_lt x 4 (fun hx4 => pk_eq x 7 (fun e => absurd e (by omega)) (fun _ => pk_eq x v (h1 hx4) (h2 hx4))) (fun hx4 => pk_eq x 7 (fun e => pk_eq x 7 (fun _ => h3 e) (fun z => absurd e z)) (fun e => nm_r (pk_sub (a := x) (b := 4) (by omega)) ?_))
  rw [nI_clamp (show x - 4 < 2 ^ 31 by omega), rq_byte v (by omega)]
  have hx7 : x < 7 := by omega
  exact ⟨pk_in (x - 4) 3 (by omega), br_c (fun t => ⟨pk_in (x - 4) 3 (by omega), nm_e (h4 hx4 hx7 t)⟩) (fun t => ⟨pk_in (x - 4) 3 (by omega), br_c (fun t2 => h5 hx4 hx7 t t2) (fun t2 => h6 hx4 hx7 t t2)⟩)⟩
theorem rq_94 {post : Int32 → St2 → Prop} {x4 : Int32} (hn : narrow .boolean (.int x4) = .int x4) (h : post x4 (p, K, A, B, S, WK, WA, WB, NG, W, BF, BD, TT)) :
    ∃ n, wX_fits_94 post 0 x4 p n 0 K A B S WK WA WB NG W BF BD TT :=
  ⟨0 + 1, br_f (by decide) (br_c (fun _ => ⟨hn, h⟩) (fun _ => br_t rfl ⟨hn, h⟩))⟩
/-- a demand, T bound so far: the answer is m -/
theorem rq_second {post : Int32 → St2 → Prop} {y b : Nat} {T : Nat → Int32} (hy : y < 8) (hb : b < 4) {m : Bool} {q0 q1 : Int32}
    (hm : m = true ↔ (3 < y ∨ y = b) ∧ (4 ≤ y → y < 7 → T (y - 4) = 4 ∨ T (y - 4) = nI b))
    (H : ∀ T', post (rq_b m) (p, K, A, B, S, WK, WA, WB, NG, W, BF, BD, T')) (e0 : q0 = nI y) (e1 : q1 = nI b) :
    wpX_meets post (p, K, A, B, S, WK, WA, WB, NG, W, BF, BD, T) q0 q1 := by
  cases m with
  | true =>
    obtain ⟨g1, g2⟩ := hm.mp rfl
    exact rq_meets y b hy hb (fun _ _ => H _) (fun z z2 => absurd g1 (by omega)) (fun _ => H _) (fun _ _ _ => H _) (fun _ _ _ _ => H _) (fun z z2 z3 z4 => (g2 z z2).elim (fun t => absurd t z3) (fun t => absurd t z4)) e0 e1
  | false =>
    have hn : ¬ ((3 < y ∨ y = b) ∧ (4 ≤ y → y < 7 → T (y - 4) = 4 ∨ T (y - 4) = nI b)) := fun t => absurd (hm.mpr t) (by decide)
    exact rq_meets y b hy hb (fun z z2 => absurd ⟨Or.inr z2, fun t => absurd t (by omega)⟩ hn) (fun _ _ => H _) (fun z => absurd ⟨Or.inl (by omega), fun _ t => absurd t (by omega)⟩ hn)
      (fun z z2 z3 => absurd ⟨Or.inl (by omega), fun _ _ => Or.inl z3⟩ hn) (fun z z2 z3 z4 => absurd ⟨Or.inl (by omega), fun _ _ => Or.inr z4⟩ hn) (fun _ _ _ _ => H _) e0 e1
theorem rq_T4 {s : Nat → Int32} {x y a : Nat} (hs : ∀ j, j < 3 → s j = 4) (hx : 4 ≤ x) (hy : 4 ≤ y) (hy7 : y < 7) : upd s (x - 4) (nI a) (y - 4) = if x = y then nI a else 4 := by
  by_cases e : x = y
  · rw [if_pos e, e, pk_us]
  · rw [if_neg e, pk_un (by omega)]
    exact hs _ (by omega)
theorem rq_ne4 {a : Nat} (ha : a < 4) : ¬ nI a = 4 := fun z => absurd ((nI_eq (a := a) (b := 4) (by omega) (by omega)).mp z) (by omega)
theorem rq_fits {post : Int32 → St2 → Prop} {c kd wk x y a b : Nat} {ht : Bool} {q1 : Int32} (hc : c < 9) (hkd : kd < 4) (hwk : wk < 4) (hx : x < 8) (hy : y < 8) (ha : a < 4) (hb : b < 4)
    (eK : K 0 = nI kd) (eA : A 0 = nI a) (eB : B 0 = nI b) (eWK : WK c = nI wk) (eWA : WA c = nI x) (eWB : WB c = nI y) (eBD : ∀ j, j < 3 → BD j = 4)
    (hh : ht = true ↔ rq_hit kd wk x y a b) (H : ∀ T, post (rq_b ht) (p, K, A, B, S, WK, WA, WB, NG, W, BF, BD, T)) (e1 : q1 = nI 0 := by rfl) :
    wpX_fits post (p, K, A, B, S, WK, WA, WB, NG, W, BF, BD, TT) (nI c) q1 0 := by
  subst e1
  have hF : ¬ rq_hit kd wk x y a b → ∀ T, post 0 (p, K, A, B, S, WK, WA, WB, NG, W, BF, BD, T) := by
    intro h T
    have e : ht = false := by
      cases ht
      · rfl
      · exact absurd (hh.mp rfl) h
    have := H T
    rw [e] at this
    exact this
  unfold wpX_fits
  dsimp only
  rw [nI_clamp (show c < 2 ^ 31 by omega), nI_clamp (show 0 < 2 ^ 31 by omega), eK, eWK]
  refine ⟨pk_in 0 7 (by omega), pk_in c 9 hc, pk_eq kd wk (fun ek => ?_) (fun e => hF (fun h => e h.1) _)⟩
  refine pk_loop (fun n i s => wX_fits_20 post (nI c) (nI 0) 0 p n (nI i) K A B S WK WA WB NG W BF BD s) (fun i s => ∀ j, j < i → s j = 4) 3 0 TT (by omega) lt_0 ?_ ?_
  · intro n s hs
    refine pk_le 3 3 (fun _ => ⟨pk_in c 9 hc, pk_in 0 7 (by omega), ?_⟩) (fun z => absurd z (by omega))
    rw [nI_clamp (show c < 2 ^ 31 by omega), nI_clamp (show 0 < 2 ^ 31 by omega)]
    refine rq_meets x a hx ha (fun z z2 => ?_) (fun z z2 => ?_) (fun z => ?_) (fun z z2 z3 => ?_) (fun z z2 z3 => absurd (hs _ (by omega)) z3) (fun z z2 z3 => absurd (hs _ (by omega)) z3) eWA eA
    · refine br_f (by decide) ⟨pk_in c 9 hc, pk_in 0 7 (by omega), ?_⟩
      refine rq_second hy hb (m := ht) (hh.trans ⟨fun t => ⟨t.2.2.1, fun u1 u2 => Or.inl (hs _ (by omega))⟩, fun t => ⟨ek, Or.inr z2, t.1, Or.inl z⟩⟩) (fun T' => ?_) eWB eB
      cases ht with
      | false => exact br_t rfl (rq_94 rfl (H T'))
      | true => exact br_f (by decide) (rq_94 rfl (H T'))
    · exact br_t rfl (rq_94 rfl (hF (fun t => by have := t.2.1; omega) _))
    · refine br_f (by decide) ⟨pk_in c 9 hc, pk_in 0 7 (by omega), ?_⟩
      refine rq_second hy hb (m := ht) (hh.trans ⟨fun t => ⟨t.2.2.1, fun u1 u2 => Or.inl (hs _ (by omega))⟩, fun t => ⟨ek, Or.inl (by omega), t.1, Or.inr (Or.inl z)⟩⟩) (fun T' => ?_) eWB eB
      cases ht with
      | false => exact br_t rfl (rq_94 rfl (H T'))
      | true => exact br_f (by decide) (rq_94 rfl (H T'))
    · refine br_f (by decide) ⟨pk_in c 9 hc, pk_in 0 7 (by omega), ?_⟩
      refine rq_second hy hb (m := ht) (hh.trans ⟨fun t => ⟨t.2.2.1, fun u1 u2 => ?_⟩, fun t => ⟨ek, Or.inl (by omega), t.1, ?_⟩⟩) (fun T' => ?_) eWB eB
      · rw [rq_T4 hs z u1 u2]
        by_cases e : x = y
        · rw [if_pos e]
          have t4 := t.2.2.2
          have : a = b := by omega
          exact Or.inr (by rw [this])
        · exact Or.inl (if_neg e)
      · by_cases e : x = y
        · have t2 := t.2 (by omega) (by omega)
          rw [rq_T4 hs z (by omega) (by omega), if_pos e] at t2
          rcases t2 with t2 | t2
          · exact absurd t2 (rq_ne4 ha)
          · exact Or.inr (Or.inr (Or.inr ((nI_eq (by omega) (by omega)).mp t2)))
        · exact Or.inr (Or.inr (Or.inl e))
      · cases ht with
        | false => exact br_t rfl (rq_94 rfl (H T'))
        | true => exact br_f (by decide) (rq_94 rfl (H T'))
  · intro n i s hi hs hw
    refine pk_le 3 i (fun z => absurd z (by omega)) (fun _ => ⟨pk_in i 3 hi, pk_in i 3 hi, nm_e (nm_r (nI_1 i) (hw _ (rq_fill (nI_clamp (by omega)) hs ?_)))⟩)
    rw [nI_clamp (show i < 2 ^ 31 by omega), eBD i hi]
    rfl
theorem rq_bind {post : St2 → Prop} {r : Int32} (H : ∀ D, (∀ j, j < 3 → D j = 4) → post (p, K, A, B, S, WK, WA, WB, NG, W, BF, D, TT)) :
    wpX_bindAlong post (p, K, A, B, S, WK, WA, WB, NG, W, BF, BD, TT) r 0 0 := by
  unfold wpX_bindAlong
  dsimp only
  exact pk_loop (fun n i s => wX_bindAlong_3 post r 0 0 p n (nI i) K A B S WK WA WB NG W BF s TT) (fun i s => ∀ j, j < i → s j = 4) 3 0 BD (by omega) lt_0
    (fun n s h => pk_le 3 3 (fun _ => ⟨0 + 1, br_t (by decide) (H s h)⟩) (fun z => absurd z (by omega)))
    (fun n i s hi h hw => pk_le 3 i (fun z => absurd z (by omega)) (fun _ => ⟨pk_in i 3 hi, nm_e (nm_r (nI_1 i) (hw _ (rq_fill (nI_clamp (by omega)) h rfl)))⟩))
end
end
section
/-- the word of the last level: negated or not, hit or not -/
def rq_v (nt ht : Bool) : Int64 := cond nt (cond ht 0 128) (cond ht 1 0)
section
variable {p : Int32} {K A B S WK WA WB NG : Nat → Int32} {W BF : Nat → Int64} {BD TT : Nat → Int32}
/-- a fact that isn't there: nothing is looked at -/
theorem rq_97 {post : St2 → Prop} {J : Int32 → Int32 → (Nat → Int32) → (Nat → Int32) → (Nat → Int32) → (Nat → Int32) → (Nat → Int32) → (Nat → Int32) → (Nat → Int32) → (Nat → Int32) → (Nat → Int64) → (Nat → Int64) → (Nat → Int32) → (Nat → Int32) → Prop} {x1 x2 x3 x4 x6 x7 x9 : Int32} {g : Nat} (hg : g < 7)
    (hz : ((p >>> (nI g &&& 31)) &&& 1) = 0) (H : J (nI (g + 1)) p K A B S WK WA WB NG W BF BD TT) :
    wX_extend_97 post J x1 x2 x3 x4 x6 x7 (nI g) x9 p K A B S WK WA WB NG W BF BD TT := by
  unfold wX_extend_97 wX_extend_98
  refine rq_has g hg (fun _ => br_t rfl ?_) (fun z => absurd hz z)
  unfold wX_extend_125 wX_extend_126
  exact br_t rfl (br_t rfl (nm_r (nI_1 g) H))
theorem rq_51a {post : St2 → Prop} {x1 x6 : Int32} (H : post (0, K, A, B, S, WK, WA, WB, NG, W, BF, BD, TT)) :
    ∃ n, wX_extend_51 post x1 0 0 (-1) x6 0 n 0 0 K A B S WK WA WB NG W BF BD TT :=
  pk_loop (σ := Unit) (fun n g _ => wX_extend_51 post x1 0 0 (-1) x6 0 n (nI g) 0 K A B S WK WA WB NG W BF BD TT) (fun _ _ => True) 7 0 () (by omega) trivial
    (fun n _ _ => pk_le 7 7 (fun _ => H) (fun z => absurd z (by omega)))
    (fun n g _ hg _ hw => pk_le 7 g (fun z => absurd z (by omega)) (fun _ => nm_e (br_t rfl (rq_97 hg (rq_h0 g hg) (hw () trivial)))))
theorem rq_51b {post : St2 → Prop} {i kd wk x y a b : Nat} {ht : Bool} (hi : i < 3) (hkd : kd < 4) (hwk : wk < 4) (hx : x < 8) (hy : y < 8) (ha : a < 4) (hb : b < 4)
    (eK : K 0 = nI kd) (eA : A 0 = nI a) (eB : B 0 = nI b) (eWK : WK (3 * i) = nI wk) (eWA : WA (3 * i) = nI x) (eWB : WB (3 * i) = nI y) (eBD : ∀ j, j < 3 → BD j = 4)
    (hh : ht = true ↔ rq_hit kd wk x y a b) (eF : BF (11 * i + 1) = 0) (eW : W (11 * i + 1) = 0)
    (H : ∀ V T, V (11 * i + 1) = rq_v false ht → (∀ j, j ≠ 11 * i + 1 → V j = W j) → post (1, K, A, B, S, WK, WA, WB, NG, V, BF, BD, T)) :
    ∃ n, wX_extend_51 post (nI i) 0 0 0 (nI (3 * i)) 1 n 0 1 K A B S WK WA WB NG W BF BD TT := by
  refine pk_loop (σ := (Nat → Int64) × (Nat → Int32)) (fun n g s => wX_extend_51 post (nI i) 0 0 0 (nI (3 * i)) 1 n (nI g) 1 K A B S WK WA WB NG s.1 BF BD s.2)
    (fun g s => (g = 0 → s.1 (11 * i + 1) = 0) ∧ (0 < g → s.1 (11 * i + 1) = rq_v false ht) ∧ (∀ j, j ≠ 11 * i + 1 → s.1 j = W j)) 7 0 (W, TT) (by omega) ⟨fun _ => eW, fun z => absurd z (by omega), fun _ _ => rfl⟩ ?_ ?_
  · intro n s h
    exact pk_le 7 7 (fun _ => H s.1 s.2 (h.2.1 (by omega)) h.2.2) (fun z => absurd z (by omega))
  · intro n g s hg h hw
    obtain ⟨V, T⟩ := s
    obtain ⟨h1, h2, h3⟩ := h
    dsimp only at h1 h2 h3
    by_cases g0 : g = 0
    · subst g0
      have hV := h1 rfl
      refine pk_le 7 0 (fun z => absurd z (by omega)) (fun _ => nm_r (rq_nx 0 (by omega)) (br_f (by decide) (br_t rfl ?_)))
      unfold wX_extend_97 wX_extend_98
      refine rq_has1 (br_f (by decide) (br_f (by decide) (br_t rfl ?_)))
      unfold wX_extend_121 wX_extend_126
      refine br_t rfl (br_f (by decide) (rq_fits (by omega) hkd hwk hx hy ha hb eK eA eB eWK eWA eWB eBD hh (fun T' => ?_)))
      cases ht with
      | false => exact br_t rfl (nm_r (nI_1 0) (hw (V, T') ⟨fun z => absurd z (by omega), fun _ => hV, h3⟩))
      | true =>
        refine br_f (by decide) ?_
        unfold wX_extend_150
        refine rq_put i 1 0 hi (by omega) (by omega) (nm_r (nI_1 0) ?_)
        dsimp only
        rw [hV, rq_or0]
        exact hw (vp_updL V (11 * i + 1) 1, T') ⟨fun z => absurd z (by omega), fun _ => pk_uLs, fun j hj => (pk_uLn hj).trans (h3 j hj)⟩
    · refine pk_le 7 g (fun z => absurd z (by omega)) (fun _ => nm_r (rq_nx g (by omega)) (br_f (by decide) (pk_eq g 0 (fun z => absurd z g0) (fun _ => ?_))))
      refine rq_wasIn i 1 g hi (by omega) (by omega) (fun _ => br_t rfl ?_) (fun z => absurd (by rw [eF]; exact rq_bit0 g (by omega)) z)
      exact rq_97 hg ((rq_h1 g hg).mpr g0) (hw (V, T) ⟨fun z => absurd z (by omega), fun _ => h2 (by omega), h3⟩)
theorem rq_any0 {post : Int32 → St2 → Prop} {c : Int32} (H : post 0 (0, K, A, B, S, WK, WA, WB, NG, W, BF, BD, TT)) :
    wpX_anyFits post (0, K, A, B, S, WK, WA, WB, NG, W, BF, BD, TT) c := by
  unfold wpX_anyFits
  dsimp only
  exact pk_loop (σ := Unit) (fun n g _ => wX_anyFits_2 post c n (nI g) 0 K A B S WK WA WB NG W BF BD TT) (fun _ _ => True) 7 0 () (by omega) trivial
    (fun n _ _ => pk_le 7 7 (fun _ => H) (fun z => absurd z (by omega)))
    (fun n g _ hg _ hw => pk_le 7 g (fun z => absurd z (by omega)) (fun _ => rq_has0 g hg (br_t rfl (nm_r (nI_1 g) (hw () trivial)))))
theorem rq_neg_a {post : St2 → Prop} {i : Nat} (hi : i < 3) (eW : W (11 * i + 1) = 0) (H : post (0, K, A, B, S, WK, WA, WB, NG, vp_updL W (11 * i + 1) 128, BF, BD, TT)) :
    wpX_extendNegated post (0, K, A, B, S, WK, WA, WB, NG, W, BF, BD, TT) (nI (3 * i)) 0 0 0 (-1) 1 := by
  unfold wpX_extendNegated
  dsimp only
  refine ⟨by decide, nm_r (rq_div3 i hi) (nm_r (e' := nI 7) (by decide +kernel) (br_t rfl ?_))⟩
  unfold wX_extendNegated_38 wX_extendNegated_39
  refine br_t rfl ?_
  unfold wX_extendNegated_64
  refine br_t rfl ?_
  unfold wX_extendNegated_80
  refine rq_any0 (br_t rfl ?_)
  unfold wX_extendNegated_93 wX_extendNegated_95
  refine br_f (by decide) (rq_put i 1 7 hi (by omega) (by omega) ?_)
  rw [eW, rq_or7]
  exact H
theorem rq_neg_b {post : St2 → Prop} {i kd wk x y a b : Nat} {ht : Bool} (hi : i < 3) (hkd : kd < 4) (hwk : wk < 4) (hx : x < 8) (hy : y < 8) (ha : a < 4) (hb : b < 4)
    (eK : K 0 = nI kd) (eA : A 0 = nI a) (eB : B 0 = nI b) (eWK : WK (3 * i) = nI wk) (eWA : WA (3 * i) = nI x) (eWB : WB (3 * i) = nI y) (eBD : ∀ j, j < 3 → BD j = 4)
    (hh : ht = true ↔ rq_hit kd wk x y a b) (eF : BF (11 * i + 1) = 128) (eW : W (11 * i + 1) = 0)
    (H : ∀ V T, V (11 * i + 1) = rq_v true ht → (∀ j, j ≠ 11 * i + 1 → V j = W j) → post (1, K, A, B, S, WK, WA, WB, NG, V, BF, BD, T)) :
    wpX_extendNegated post (1, K, A, B, S, WK, WA, WB, NG, W, BF, BD, TT) (nI (3 * i)) 0 0 1 0 1 := by
  unfold wpX_extendNegated
  dsimp only
  refine ⟨by decide, nm_r (rq_div3 i hi) (nm_r (e' := nI 7) (by decide +kernel) (br_f (by decide) ?_))⟩
  refine rq_wasIn i 1 7 hi (by omega) (by omega) (fun z => absurd rfl ((rq_bit128 7 (by omega)).mp (by rw [← eF]; exact z))) (fun _ => br_f (by decide) ?_)
  unfold wX_extendNegated_39
  refine br_f (by decide) (rq_fits (by omega) hkd hwk hx hy ha hb eK eA eB eWK eWA eWB eBD hh (fun T' => ?_))
  cases ht with
  | false =>
    refine br_t rfl ?_
    unfold wX_extendNegated_95
    refine br_f (by decide) (rq_put i 1 7 hi (by omega) (by omega) ?_)
    rw [eW, rq_or7]
    exact H _ T' pk_uLs (fun j hj => pk_uLn hj)
  | true =>
    refine br_f (by decide) ?_
    unfold wX_extendNegated_64
    refine br_f (by decide) (br_f (by decide) ?_)
    unfold wX_extendNegated_95
    exact br_t rfl (H W T' eW (fun _ _ => rfl))
theorem rq_extend_a {post : St2 → Prop} {i : Nat} {nt : Bool} (hi : i < 3) (eN : NG (3 * i) = rq_b nt) (eF : BF (11 * i) = 0) (eW : W (11 * i + 1) = 0)
    (H : ∀ V D T, V (11 * i + 1) = rq_v nt false → (∀ j, j ≠ 11 * i + 1 → V j = W j) → post (0, K, A, B, S, WK, WA, WB, NG, V, BF, D, T)) :
    wpX_extend post (0, K, A, B, S, WK, WA, WB, NG, W, BF, BD, TT) (nI i) 0 0 (-1) 1 := by
  unfold wpX_extend
  dsimp only
  refine nm_r (rq_cell i hi) (rq_wasIn i 0 0 hi (by omega) (by omega) (fun _ => ?_) (fun z => absurd (by rw [show BF (11 * i + 0) = 0 from eF]; exact rq_bit0 0 (by omega)) z))
  refine rq_bind (fun D hD => ⟨pk_in (3 * i) 9 (by omega), ?_⟩)
  dsimp only
  rw [nI_clamp (show 3 * i < 2 ^ 31 by omega), eN]
  cases nt with
  | false => exact br_t rfl (rq_51a (H W D TT eW (fun _ _ => rfl)))
  | true => exact br_f (by decide) (rq_neg_a hi eW (H _ D TT pk_uLs (fun j hj => pk_uLn hj)))
theorem rq_extend_b {post : St2 → Prop} {i kd wk x y a b : Nat} {nt ht : Bool} (hi : i < 3) (hkd : kd < 4) (hwk : wk < 4) (hx : x < 8) (hy : y < 8) (ha : a < 4) (hb : b < 4)
    (eK : K 0 = nI kd) (eA : A 0 = nI a) (eB : B 0 = nI b) (eWK : WK (3 * i) = nI wk) (eWA : WA (3 * i) = nI x) (eWB : WB (3 * i) = nI y)
    (hh : ht = true ↔ rq_hit kd wk x y a b) (eN : NG (3 * i) = rq_b nt) (eF0 : BF (11 * i) = 1) (eF : BF (11 * i + 1) = rq_v nt false) (eW : W (11 * i + 1) = 0)
    (H : ∀ V D T, V (11 * i + 1) = rq_v nt ht → (∀ j, j ≠ 11 * i + 1 → V j = W j) → post (1, K, A, B, S, WK, WA, WB, NG, V, BF, D, T)) :
    wpX_extend post (1, K, A, B, S, WK, WA, WB, NG, W, BF, BD, TT) (nI i) 0 0 0 1 := by
  unfold wpX_extend
  dsimp only
  refine nm_r (rq_cell i hi) (rq_wasIn i 0 0 hi (by omega) (by omega) (fun z => absurd rfl ((rq_bit1 0 (by omega)).mp (by rw [← eF0]; exact z))) (fun _ => ?_))
  refine rq_bind (fun D hD => ⟨pk_in (3 * i) 9 (by omega), ?_⟩)
  dsimp only
  rw [nI_clamp (show 3 * i < 2 ^ 31 by omega), eN]
  cases nt with
  | false => exact br_t rfl (rq_51b hi hkd hwk hx hy ha hb eK eA eB eWK eWA eWB hD hh eF eW (fun V T h1 h2 => H V D T h1 h2))
  | true => exact br_f (by decide) (rq_neg_b hi hkd hwk hx hy ha hb eK eA eB eWK eWA eWB hD hh eF eW (fun V T h1 h2 => H V D T h1 h2))
end
end
section
/-- the first loop of update: w words are cleared and kept -/
def rq_I (i : Nat) (f : Int32) (W : Nat → Int64) (w : Nat) (V G : Nat → Int64) : Prop :=
  (∀ j, j < w → V (11 * i + j) = 0) ∧ (∀ j, (j < 11 * i ∨ 11 * i + w ≤ j) → V j = W j) ∧ (1 < w → G (11 * i + 1) = (if 0 ≤ f then W (11 * i + 1) else 0))
theorem rq_I_step {i : Nat} {f : Int32} {W : Nat → Int64} {w : Nat} {V G : Nat → Int64} {z : Int64} (h : rq_I i f W w V G) (hz : z = (if 0 ≤ f then V (11 * i + w) else 0)) :
    rq_I i f W (w + 1) (vp_updL V (11 * i + w) 0) (vp_updL G (11 * i + w) z) := by
  obtain ⟨h1, h2, h3⟩ := h
  refine ⟨fun j hj => ?_, fun j hj => ?_, fun hw => ?_⟩
  · by_cases e : j = w
    · rw [e, pk_uLs]
    · rw [pk_uLn (by omega)]
      exact h1 j (by omega)
  · rw [pk_uLn (by omega)]
    exact h2 j (by omega)
  · by_cases e : w = 1
    · subst e
      rw [pk_uLs, hz, h2 (11 * i + 1) (by omega)]
    · rw [pk_uLn (by omega)]
      exact h3 (by omega)
section
variable {p : Int32} {K A B S WK WA WB NG : Nat → Int32} {W BF : Nat → Int64} {BD TT : Nat → Int32}
theorem rq_upd3 {post : St2 → Prop} {i : Nat} {f : Int32} (hi : i < 3)
    (H : ∀ V G, V (11 * i) = 1 → G (11 * i) = (if 0 ≤ f then 1 else 0) → V (11 * i + 1) = 0 → G (11 * i + 1) = (if 0 ≤ f then W (11 * i + 1) else 0) → (∀ j, j < 11 * i ∨ 11 * i + 11 ≤ j → V j = W j) →
      ∃ n, wX_update_92 post (nI i) f 1 n 0 p K A B S WK WA WB NG V G BD TT) :
    wpX_update post (p, K, A, B, S, WK, WA, WB, NG, W, BF, BD, TT) (nI i) f 1 := by
  unfold wpX_update
  dsimp only
  refine pk_loop (σ := (Nat → Int64) × (Nat → Int64)) (fun n w s => wX_update_3 post (nI i) f 1 p n (nI w) K A B S WK WA WB NG s.1 s.2 BD TT) (fun w s => rq_I i f W w s.1 s.2) 11 0 (W, BF) (by omega)
    ⟨fun j hj => absurd hj (by omega), fun _ _ => rfl, fun z => absurd z (by omega)⟩ ?_ ?_
  · intro n s h
    obtain ⟨V, G⟩ := s
    obtain ⟨h1, h2, h3⟩ := h
    dsimp only at h1 h2 h3
    refine pk_le 11 11 (fun _ => ?_) (fun z => absurd z (by omega))
    rw [rq_ix11 i hi, nI_clamp (show 11 * i < 2 ^ 31 by omega)]
    refine ⟨pk_in (11 * i) 33 (by omega), nm_e (br_c (fun g => ⟨pk_in (11 * i) 33 (by omega), nm_e ?_⟩) (fun g => ⟨pk_in (11 * i) 33 (by omega), nm_e ?_⟩))⟩
    · exact H _ _ pk_uLs (by rw [pk_uLs, if_pos g]) (by rw [pk_uLn (by omega)]; exact h1 1 (by omega)) (by rw [pk_uLn (by omega)]; exact h3 (by omega)) (fun j hj => by rw [pk_uLn (by omega)]; exact h2 j (by omega))
    · exact H _ _ pk_uLs (by rw [pk_uLs, if_neg g]) (by rw [pk_uLn (by omega)]; exact h1 1 (by omega)) (by rw [pk_uLn (by omega)]; exact h3 (by omega)) (fun j hj => by rw [pk_uLn (by omega)]; exact h2 j (by omega))
  · intro n w s hw h hs
    obtain ⟨V, G⟩ := s
    dsimp only at h
    refine pk_le 11 w (fun z => absurd z (by omega)) (fun _ => ?_)
    rw [rq_ixw i hi w hw]
    refine br_c (fun g => ⟨pk_in (11 * i + w) 33 (by omega), ?_⟩) (fun g => ?_)
    · unfold wX_update_41
      rw [rq_ixw i hi w hw, nI_clamp (show 11 * i + w < 2 ^ 31 by omega)]
      exact ⟨pk_in (11 * i + w) 33 (by omega), nm_e ⟨pk_in (11 * i + w) 33 (by omega), nm_e (nm_r (nI_1 w) (hs (_, _) (rq_I_step h (by rw [if_pos g]))))⟩⟩
    · unfold wX_update_41
      rw [rq_ixw i hi w hw, nI_clamp (show 11 * i + w < 2 ^ 31 by omega)]
      exact ⟨pk_in (11 * i + w) 33 (by omega), nm_e ⟨pk_in (11 * i + w) 33 (by omega), nm_e (nm_r (nI_1 w) (hs (_, _) (rq_I_step h (by rw [if_neg g]))))⟩⟩
theorem rq_upd0 {post : St2 → Prop} {i : Nat} {f : Int32} (hi : i < 3) (eS : S i = 0)
    (H : ∀ V G, V (11 * i) = 1 → (∀ j, j < 11 * i ∨ 11 * i + 11 ≤ j → V j = W j) → post (p, K, A, B, S, WK, WA, WB, NG, V, G, BD, TT)) :
    wpX_update post (p, K, A, B, S, WK, WA, WB, NG, W, BF, BD, TT) (nI i) f 1 := by
  refine rq_upd3 hi (fun V G h1 _ _ _ h5 => ⟨0 + 1, And.intro (pk_in i 3 hi) ?_⟩)
  rw [nI_clamp (show i < 2 ^ 31 by omega), eS]
  exact br_t (by decide) (H V G h1 h5)
theorem rq_upd1 {post : St2 → Prop} {i : Nat} {f : Int32} (v : Int64) (hi : i < 3) (eS : S i = 1)
    (HE : ∀ (ψ : St2 → Prop) (V G : Nat → Int64), G (11 * i) = (if 0 ≤ f then 1 else 0) → V (11 * i + 1) = 0 → G (11 * i + 1) = (if 0 ≤ f then W (11 * i + 1) else 0) →
      (∀ V' D T, V' (11 * i + 1) = v → (∀ j, j ≠ 11 * i + 1 → V' j = V j) → ψ (p, K, A, B, S, WK, WA, WB, NG, V', G, D, T)) → wpX_extend ψ (p, K, A, B, S, WK, WA, WB, NG, V, G, BD, TT) (nI i) 0 0 f 1)
    (H : ∀ V G D T, V (11 * i) = 1 → V (11 * i + 1) = v → (∀ j, j < 11 * i ∨ 11 * i + 11 ≤ j → V j = W j) → post (p, K, A, B, S, WK, WA, WB, NG, V, G, D, T)) :
    wpX_update post (p, K, A, B, S, WK, WA, WB, NG, W, BF, BD, TT) (nI i) f 1 := by
  refine rq_upd3 hi (fun V G h1 h2 h3 h4 h5 => ⟨1 + 1, And.intro (pk_in i 3 hi) ?_⟩)
  rw [nI_clamp (show i < 2 ^ 31 by omega), eS]
  refine br_f (by decide) ⟨1 + 1, ?_⟩
  refine pk_le 1 0 (fun z => absurd z (by omega)) (fun _ => ?_)
  refine rq_isIn i 0 0 hi (by omega) (by omega) (fun z => absurd rfl ((rq_bit1 0 (by omega)).mp (by rw [← h1]; exact z))) (fun _ => br_f (by decide) ?_)
  refine HE _ V G h2 h3 h4 (fun V' D T e1 e2 => nm_r (e' := nI 1) rfl ?_)
  refine pk_le 1 1 (fun _ => nm_r (e' := nI 1) rfl (And.intro (pk_in i 3 hi) ?_)) (fun z => absurd z (by omega))
  rw [nI_clamp (show i < 2 ^ 31 by omega), eS]
  exact br_t (by decide) (H V' G D T (by rw [e2 _ (by omega)]; exact h1) e1 (fun j hj => by rw [e2 _ (by omega)]; exact h5 j hj))
end
end
section
/-- no condition stands -/
def rq_N (S : Nat → Int32) (W : Nat → Int64) : Prop := (∀ j, j < 3 → S j = 0) ∧ (∀ j, j < 3 → W (11 * j) = 1)
/-- rule i has one condition: kind k, demands x and y, negated or not; its word of the last level is v -/
def rq_C (i k x y : Nat) (nt : Bool) (v : Int64) (S WK WA WB NG : Nat → Int32) (W : Nat → Int64) : Prop :=
  S i = 1 ∧ (∀ j, j < 3 → j ≠ i → S j = 0) ∧ WK (3 * i) = nI k ∧ WA (3 * i) = nI x ∧ WB (3 * i) = nI y ∧ NG (3 * i) = rq_b nt ∧ (∀ j, j < 3 → W (11 * j) = 1) ∧ W (11 * i + 1) = v
theorem rq_W1 {W V : Nat → Int64} {j : Nat} (h : ∀ m, m < 3 → W (11 * m) = 1) (h1 : V (11 * j) = 1) (h2 : ∀ m, m < 11 * j ∨ 11 * j + 11 ≤ m → V m = W m) : ∀ m, m < 3 → V (11 * m) = 1 := by
  intro m hm
  by_cases e : m = j
  · rw [e]
    exact h1
  · rw [h2 (11 * m) (by omega)]
    exact h m hm
theorem rq_C_upd {i k x y : Nat} {nt : Bool} {v v' : Int64} {S WK WA WB NG : Nat → Int32} {W V : Nat → Int64} {j : Nat} (h : rq_C i k x y nt v S WK WA WB NG W)
    (h1 : V (11 * j) = 1) (h2 : ∀ m, m < 11 * j ∨ 11 * j + 11 ≤ m → V m = W m) (hv : V (11 * i + 1) = v') : rq_C i k x y nt v' S WK WA WB NG V :=
  ⟨h.1, h.2.1, h.2.2.1, h.2.2.2.1, h.2.2.2.2.1, h.2.2.2.2.2.1, rq_W1 h.2.2.2.2.2.2.1 h1 h2, hv⟩
section
variable {p : Int32} {K A B S WK WA WB NG : Nat → Int32} {W BF : Nat → Int64} {BD TT : Nat → Int32}
theorem rq_init {post : St2 → Prop} (H : ∀ V : Nat → Int64, (∀ j, j < 3 → V (11 * j) = 1) → post (0, fun _ => 0, fun _ => 0, fun _ => 0, fun _ => 0, fun _ => 0, fun _ => 0, fun _ => 0, fun _ => 0, V, fun _ => 0, fun _ => 0, fun _ => 0)) :
    wpX_init post 12 132 0 := by
  unfold wpX_init
  refine ⟨by omega, by omega, by omega, by omega, by omega, by omega, by omega, by omega, by omega, by omega, by omega, by omega, by omega, by omega, by omega, by omega, by omega, by omega, by omega, by omega, by omega, by omega, by omega, by omega, ?_⟩
  refine pk_loop (fun n i s => wX_init_99 post 12 132 12 132 0 n (nI i) (fun _ => 0) (fun _ => 0) (fun _ => 0) (fun _ => 0) (fun _ => 0) (fun _ => 0) (fun _ => 0) (fun _ => 0) s (fun _ => 0) (fun _ => 0) (fun _ => 0))
    (fun i s => ∀ j, j < i → s (11 * j) = 1) 3 0 (fun _ => 0) (by omega) lt_0 (fun n s h => pk_le 3 3 (fun _ => H s h) (fun z => absurd z (by omega))) ?_
  intro n i s hi h hw
  refine pk_le 3 i (fun z => absurd z (by omega)) (fun _ => ?_)
  rw [rq_ix11 i hi, nI_clamp (show 11 * i < 2 ^ 31 by omega)]
  refine ⟨pk_in (11 * i) 33 (by omega), nm_e (nm_r (nI_1 i) (hw _ (fun j hj => ?_)))⟩
  by_cases e : j = i
  · rw [e, pk_uLs]
  · rw [pk_uLn (by omega)]
    exact h j (by omega)
theorem rq_c104 {post : Int32 → St2 → Prop} {i : Nat} {z0 : Int32} {nt : Bool} (hi : i < 3) (eS : S i = 0) (ez : vp_nar .boolean z0 = rq_b nt)
    (H : ∀ V G D T, V (11 * i) = 1 → V (11 * i + 1) = rq_v nt false → (∀ j, j < 11 * i ∨ 11 * i + 11 ≤ j → V j = W j) → post 1 (0, K, A, B, upd S i 1, WK, WA, WB, upd NG (3 * i) (rq_b nt), V, G, D, T)) :
    wX_condition_104 post (nI i) z0 (nI (3 * i)) 0 K A B S WK WA WB NG W BF BD TT := by
  unfold wX_condition_104
  rw [nI_clamp (show 3 * i < 2 ^ 31 by omega), nI_clamp (show i < 2 ^ 31 by omega), ez, eS, show ((0 : Int32) + 1).toInt8.toInt32 = 1 from by decide]
  refine ⟨pk_in (3 * i) 9 (by omega), nm_e ⟨pk_in i 3 hi, pk_in i 3 hi, nm_e ?_⟩⟩
  refine rq_upd1 (rq_v nt false) hi pk_us (fun ψ V G h2 h3 h4 hh => ?_) (fun V G D T h1 h2 h3 => ⟨pk_in i 3 hi, ?_⟩)
  · exact rq_extend_a hi pk_us (by rw [h2]; decide) h3 hh
  · rw [pk_us]
    exact H V G D T h1 h2 h3
theorem rq_cond {post : Int32 → St2 → Prop} {i q : Nat} {nt : Bool} (hi : i < 3) (hq : q < 512) (h3 : q % 4 ≠ 3) (hn : nt = true ↔ 256 ≤ q) (hN : rq_N S W)
    (H : ∀ S' WK' WA' WB' NG' V G D T, rq_C i (q % 4) (q / 4 % 8) (q / 32 % 8) nt (rq_v nt false) S' WK' WA' WB' NG' V → post 1 (0, K, A, B, S', WK', WA', WB', NG', V, G, D, T)) :
    wpX_condition post (0, K, A, B, S, WK, WA, WB, NG, W, BF, BD, TT) (nI i) (nI q) := by
  obtain ⟨e1, e2, e3⟩ := rq_w q hq
  unfold wpX_condition
  dsimp only
  refine rq_ruleT hi (br_f (by decide) (pk_lt q 0 (fun z => absurd z (by omega)) (fun _ => pk_lt 511 q (fun z => absurd z (by omega)) (fun _ => ?_))))
  rw [e1, e2, e3, rq_byte (q % 4) (by omega), rq_byte (q / 4 % 8) (by omega), rq_byte (q / 32 % 8) (by omega), nI_clamp (show i < 2 ^ 31 by omega), hN.1 i hi]
  refine pk_le (q % 4) 2 (fun _ => ⟨pk_in i 3 hi, br_t (by decide) ⟨pk_in i 3 hi, nm_r (rq_cell i hi) ?_⟩⟩) (fun z => absurd z (by omega))
  rw [nI_clamp (show 3 * i < 2 ^ 31 by omega)]
  refine ⟨pk_in (3 * i) 9 (by omega), nm_e ⟨pk_in (3 * i) 9 (by omega), nm_e ⟨pk_in (3 * i) 9 (by omega), nm_e ?_⟩⟩⟩
  have HH : ∀ V G D T, V (11 * i) = 1 → V (11 * i + 1) = rq_v nt false → (∀ j, j < 11 * i ∨ 11 * i + 11 ≤ j → V j = W j) →
      post 1 (0, K, A, B, upd S i 1, upd WK (3 * i) (nI (q % 4)), upd WA (3 * i) (nI (q / 4 % 8)), upd WB (3 * i) (nI (q / 32 % 8)), upd NG (3 * i) (rq_b nt), V, G, D, T) :=
    fun V G D T h1 h2 h4 => H _ _ _ _ _ V G D T ⟨pk_us, fun j hj hji => by rw [pk_un hji]; exact hN.1 j hj, pk_us, pk_us, pk_us, pk_us, rq_W1 hN.2 h1 h4, h2⟩
  cases nt with
  | false => exact pk_lt q 256 (fun _ => rq_c104 hi (hN.1 i hi) rfl HH) (fun z => absurd (hn.mpr z) (by decide))
  | true => exact pk_lt q 256 (fun z => absurd (hn.mp rfl) (by omega)) (fun _ => rq_c104 hi (hN.1 i hi) rfl HH)
theorem rq_factT {post : Int32 → Prop} {k a b : Nat} (hk : k < 3) (ha : a < 4) (hb : b < 4) (h : post 1) : wpX_factOk post () (nI k) (nI a) (nI b) :=
  pk_lt k 0 (fun z => absurd z (by omega)) (fun _ => pk_lt 2 k (fun z => absurd z (by omega)) (fun _ => pk_lt a 0 (fun z => absurd z (by omega)) (fun _ => pk_lt 3 a (fun z => absurd z (by omega)) (fun _ => pk_lt b 0 (fun z => absurd z (by omega)) (fun _ => pk_lt 3 b (fun z => absurd z (by omega)) (fun _ => h))))))
theorem rq_factF {post : Int32 → Prop} {k a b : Int32} (hn : ¬ (¬ k < 0 ∧ ¬ 2 < k ∧ ¬ a < 0 ∧ ¬ 3 < a ∧ ¬ b < 0 ∧ ¬ 3 < b)) (h : post 0) : wpX_factOk post () k a b :=
  br_c (fun _ => h) (fun h1 => br_c (fun _ => h) (fun h2 => br_c (fun _ => h) (fun h3 => br_c (fun _ => h) (fun h4 => br_c (fun _ => h) (fun h5 => br_c (fun _ => h) (fun h6 => absurd ⟨h1, h2, h3, h4, h5, h6⟩ hn))))))
theorem rq_addF {post : Int32 → St2 → Prop} {k a b : Int32} (hn : ¬ (¬ k < 0 ∧ ¬ 2 < k ∧ ¬ a < 0 ∧ ¬ 3 < a ∧ ¬ b < 0 ∧ ¬ 3 < b)) (H : post (-1) (p, K, A, B, S, WK, WA, WB, NG, W, BF, BD, TT)) :
    wpX_add post (p, K, A, B, S, WK, WA, WB, NG, W, BF, BD, TT) k a b := by
  unfold wpX_add
  dsimp only
  exact rq_factF hn (br_t rfl H)
theorem rq_add0 {post : Int32 → St2 → Prop} {k a b : Nat} (hk : k < 3) (ha : a < 4) (hb : b < 4)
    (H : ∀ K' A' B' : Nat → Int32, K' 0 = nI k → A' 0 = nI a → B' 0 = nI b → ∃ n, wX_add_73 post 0 n 0 1 K' A' B' S WK WA WB NG W BF BD TT) :
    wpX_add post (0, K, A, B, S, WK, WA, WB, NG, W, BF, BD, TT) (nI k) (nI a) (nI b) := by
  unfold wpX_add
  dsimp only
  refine rq_factT hk ha hb (br_f (by decide) ⟨0 + 1, ?_⟩)
  refine pk_le 7 0 (fun z => absurd z (by omega)) (fun _ => rq_has0 0 (by omega) (br_t rfl (nm_r (e' := 1) (by decide +kernel) ?_)))
  rw [rq_byte k (by omega), rq_byte a (by omega), rq_byte b (by omega), sb_cl0]
  exact ⟨pk_in 0 7 (by omega), nm_e ⟨pk_in 0 7 (by omega), nm_e ⟨pk_in 0 7 (by omega), nm_e (H _ _ _ pk_us pk_us pk_us)⟩⟩⟩
theorem rq_addN {post : Int32 → St2 → Prop} {k a b : Nat} (hk : k < 3) (ha : a < 4) (hb : b < 4) (hN : rq_N S W)
    (H : ∀ K' A' B' V G D T, rq_N S V → post 0 (1, K', A', B', S, WK, WA, WB, NG, V, G, D, T)) :
    wpX_add post (0, K, A, B, S, WK, WA, WB, NG, W, BF, BD, TT) (nI k) (nI a) (nI b) := by
  refine rq_add0 hk ha hb (fun K' A' B' _ _ _ => ?_)
  refine pk_loop (σ := (Nat → Int64) × (Nat → Int64)) (fun n j s => wX_add_73 post 0 n (nI j) 1 K' A' B' S WK WA WB NG s.1 s.2 BD TT) (fun _ s => rq_N S s.1) 3 0 (W, BF) (by omega) hN
    (fun n s h => pk_le 3 3 (fun _ => H K' A' B' s.1 s.2 BD TT h) (fun z => absurd z (by omega))) ?_
  intro n j s hj h hw
  refine pk_le 3 j (fun z => absurd z (by omega)) (fun _ => ?_)
  exact rq_upd0 hj (h.1 j hj) (fun V G h1 h2 => nm_r (nI_1 j) (hw (V, G) ⟨h.1, rq_W1 h.2 h1 h2⟩))
theorem rq_addC {post : Int32 → St2 → Prop} {i wk x y k a b : Nat} {nt ht : Bool} (hi : i < 3) (hk : k < 3) (ha : a < 4) (hb : b < 4) (hwk : wk < 4) (hx : x < 8) (hy : y < 8)
    (hh : ht = true ↔ rq_hit k wk x y a b) (hC : rq_C i wk x y nt (rq_v nt false) S WK WA WB NG W)
    (H : ∀ K' A' B' V G D T, K' 0 = nI k → A' 0 = nI a → B' 0 = nI b → rq_C i wk x y nt (rq_v nt ht) S WK WA WB NG V → post 0 (1, K', A', B', S, WK, WA, WB, NG, V, G, D, T)) :
    wpX_add post (0, K, A, B, S, WK, WA, WB, NG, W, BF, BD, TT) (nI k) (nI a) (nI b) := by
  refine rq_add0 hk ha hb (fun K' A' B' eK eA eB => ?_)
  refine pk_loop (σ := (Nat → Int64) × (Nat → Int64) × (Nat → Int32) × (Nat → Int32)) (fun n j s => wX_add_73 post 0 n (nI j) 1 K' A' B' S WK WA WB NG s.1 s.2.1 s.2.2.1 s.2.2.2)
    (fun j s => rq_C i wk x y nt (if i < j then rq_v nt ht else rq_v nt false) S WK WA WB NG s.1) 3 0 (W, BF, BD, TT) (by omega) (by rw [if_neg (by omega)]; exact hC) ?_ ?_
  · intro n s h
    rw [if_pos hi] at h
    exact pk_le 3 3 (fun _ => H K' A' B' s.1 s.2.1 s.2.2.1 s.2.2.2 eK eA eB h) (fun z => absurd z (by omega))
  · intro n j s hj h hw
    obtain ⟨V0, G0, D0, T0⟩ := s
    dsimp only at h
    refine pk_le 3 j (fun z => absurd z (by omega)) (fun _ => ?_)
    by_cases e : j = i
    · subst e
      rw [if_neg (by omega)] at h
      obtain ⟨c1, c2, c3, c4, c5, c6, c7, c8⟩ := h
      refine rq_upd1 (rq_v nt ht) hj c1 (fun ψ V G h2 h3 h4 hE => ?_) (fun V G D T h1 h2 h3 => nm_r (nI_1 j) (hw (V, G, D, T) ?_))
      · exact rq_extend_b hj (by omega) hwk hx hy ha hb eK eA eB c3 c4 c5 hh c6 (by rw [h2]; decide) (by rw [h4, if_pos (by decide)]; exact c8) h3 hE
      · rw [if_pos (by omega)]
        exact rq_C_upd ⟨c1, c2, c3, c4, c5, c6, c7, c8⟩ h1 h3 h2
    · refine rq_upd0 hj (h.2.1 j hj e) (fun V G h1 h2 => nm_r (nI_1 j) (hw (V, G, D0, T0) ?_))
      have e2 : (if i < j + 1 then rq_v nt ht else rq_v nt false) = (if i < j then rq_v nt ht else rq_v nt false) := by
        by_cases g : i < j
        · rw [if_pos g, if_pos (by omega)]
        · rw [if_neg g, if_neg (by omega)]
      rw [e2]
      exact rq_C_upd h h1 h2 ((h2 (11 * i + 1) (by omega)).trans h.2.2.2.2.2.2.2)
end
end
section
/-- how many codes below k are in a word -/
def rq_pop (w : Int64) : Nat → Nat
  | 0 => 0
  | k + 1 => rq_pop w k + (if rq_bit w (nI k) = 0 then 0 else 1)
def rq_pos (nt ht : Bool) : Nat := cond nt (cond ht 8 7) (cond ht 0 8)
theorem rq_pop8 : ∀ nt ht : Bool, rq_pop (rq_v nt ht) 8 = cond nt (cond ht 0 1) (cond ht 1 0) := by decide +kernel
theorem rq_pos_lo : ∀ nt ht : Bool, ∀ k, k < 8 → k < rq_pos nt ht → rq_bit (rq_v nt ht) (nI k) = 0 := by decide +kernel
theorem rq_pos_at : ∀ nt ht : Bool, rq_pos nt ht < 8 → ¬ rq_bit (rq_v nt ht) (nI (rq_pos nt ht)) = 0 := by decide +kernel
theorem rq_pos_le : ∀ nt ht : Bool, rq_pos nt ht ≤ 8 := by decide +kernel
theorem rq_v0 : ∀ nt ht : Bool, (rq_bit (rq_v nt ht) (nI 0) = 0 ↔ ¬ (nt = false ∧ ht = true)) := by decide +kernel
theorem rq_lo7 : ∀ k, k < 8 → ((nI k >>> (((3 : Int32) * 0) &&& 31)) &&& 7 = 0 ↔ k = 0) := by decide +kernel
section
variable {p : Int32} {K A B S WK WA WB NG : Nat → Int32} {W BF : Nat → Int64} {BD TT : Nat → Int32}
theorem rq_count0 {post : Int32 → Prop} {i : Nat} (hi : i < 3) (eW : W (11 * i) = 1) (H : post 1) :
    wpX_countAt post (p, K, A, B, S, WK, WA, WB, NG, W, BF, BD, TT) (nI i) 0 := by
  unfold wpX_countAt
  dsimp only
  refine ⟨1 + 1, ?_⟩
  refine pk_le 1 0 (fun z => absurd z (by omega)) (fun _ => ?_)
  refine rq_isIn i 0 0 hi (by omega) (by omega) (fun z => absurd rfl ((rq_bit1 0 (by omega)).mp (by rw [← eW]; exact z))) (fun _ => br_f (by decide) (nm_r (e' := 1) rfl (nm_r (e' := 1) rfl ?_)))
  exact pk_le 1 1 (fun _ => H) (fun z => absurd z (by omega))
theorem rq_count1 {post : Int32 → Prop} {i : Nat} (hi : i < 3) (H : post (nI (rq_pop (W (11 * i + 1)) 8))) :
    wpX_countAt post (p, K, A, B, S, WK, WA, WB, NG, W, BF, BD, TT) (nI i) 1 := by
  unfold wpX_countAt
  dsimp only
  refine pk_loop (σ := Unit) (fun n k _ => wX_countAt_5 post (nI i) 1 p K A B S WK WA WB NG W BF BD TT n (nI (rq_pop (W (11 * i + 1)) k)) (nI k)) (fun _ _ => True) 8 0 () (by omega) trivial
    (fun n _ _ => pk_le 8 8 (fun _ => H) (fun z => absurd z (by omega))) ?_
  intro n k _ hk _ hw
  have hw' := hw () trivial
  refine pk_le 8 k (fun z => absurd z (by omega)) (fun _ => ?_)
  refine rq_isIn i 1 k hi (by omega) hk (fun z => br_t rfl ?_) (fun z => br_f (by decide) ?_)
  · unfold rq_pop at hw'
    rw [if_pos z] at hw'
    exact nm_r (nI_add _ 0) (nm_r (nI_1 k) hw')
  · unfold rq_pop at hw'
    rw [if_neg z] at hw'
    exact nm_r (nI_1 _) (nm_r (nI_1 k) hw')
theorem rq_matchesF {post : Int32 → Prop} {r : Int32} (hr : r < 0 ∨ nI 3 ≤ r) (H : post (-1)) : wpX_matches post (p, K, A, B, S, WK, WA, WB, NG, W, BF, BD, TT) r := by
  unfold wpX_matches
  dsimp only
  exact rq_ruleF hr (br_t rfl H)
theorem rq_matchesN {post : Int32 → Prop} {i : Nat} (hi : i < 3) (hN : rq_N S W) (H : post 1) : wpX_matches post (p, K, A, B, S, WK, WA, WB, NG, W, BF, BD, TT) (nI i) := by
  unfold wpX_matches
  dsimp only
  refine rq_ruleT hi (br_f (by decide) ⟨pk_in i 3 hi, ?_⟩)
  rw [nI_clamp (show i < 2 ^ 31 by omega), hN.1 i hi]
  exact rq_count0 hi (hN.2 i hi) H
theorem rq_matchesC {post : Int32 → Prop} {i k x y : Nat} {nt ht : Bool} (hi : i < 3) (hC : rq_C i k x y nt (rq_v nt ht) S WK WA WB NG W) (H : post (nI (cond nt (cond ht 0 1) (cond ht 1 0)))) :
    wpX_matches post (p, K, A, B, S, WK, WA, WB, NG, W, BF, BD, TT) (nI i) := by
  unfold wpX_matches
  dsimp only
  refine rq_ruleT hi (br_f (by decide) ⟨pk_in i 3 hi, ?_⟩)
  rw [nI_clamp (show i < 2 ^ 31 by omega), hC.1]
  exact rq_count1 hi (by rw [hC.2.2.2.2.2.2.2, rq_pop8]; exact H)
theorem rq_matchF {post : Int32 → Prop} {r : Int32} (hr : r < 0 ∨ nI 3 ≤ r) (H : post (-1)) : wpX_match post (p, K, A, B, S, WK, WA, WB, NG, W, BF, BD, TT) r 0 := by
  unfold wpX_match
  dsimp only
  exact rq_ruleF hr (br_t rfl H)
theorem rq_matchN {post : Int32 → Prop} {i : Nat} (hi : i < 3) (hN : rq_N S W) (H : post 511) : wpX_match post (p, K, A, B, S, WK, WA, WB, NG, W, BF, BD, TT) (nI i) 0 := by
  unfold wpX_match
  dsimp only
  refine rq_ruleT hi (br_f (by decide) ⟨pk_in i 3 hi, ?_⟩)
  rw [nI_clamp (show i < 2 ^ 31 by omega), hN.1 i hi]
  refine nm_e ?_
  unfold wpX_codes
  refine nm_r (e' := 511) (by decide +kernel) ⟨0 + 1, ?_⟩
  refine pk_le 1 0 (fun z => absurd z (by omega)) (fun _ => ?_)
  exact rq_isIn i 0 0 hi (by omega) (by omega) (fun z => absurd rfl ((rq_bit1 0 (by omega)).mp (by rw [← hN.2 i hi]; exact z))) (fun _ => br_f (by decide) (br_t rfl H))
theorem rq_matchC {post : Int32 → Prop} {i k x y : Nat} {nt ht : Bool} (hi : i < 3) (hC : rq_C i k x y nt (rq_v nt ht) S WK WA WB NG W) (H : post (cond nt (cond ht (-1) 511) (cond ht 504 (-1)))) :
    wpX_match post (p, K, A, B, S, WK, WA, WB, NG, W, BF, BD, TT) (nI i) 0 := by
  unfold wpX_match
  dsimp only
  refine rq_ruleT hi (br_f (by decide) ⟨pk_in i 3 hi, ?_⟩)
  rw [nI_clamp (show i < 2 ^ 31 by omega), hC.1]
  refine nm_e ?_
  unfold wpX_codes
  refine nm_r (e' := 504) (by decide +kernel) ?_
  have eV := hC.2.2.2.2.2.2.2
  refine pk_loop (σ := Unit) (fun n k _ => wX_match_36 post (nI i) 0 1 504 p K A B S WK WA WB NG W BF BD TT n 0 (nI k)) (fun _ _ => True) (rq_pos nt ht) 0 () (by omega) trivial ?_ ?_
  · intro n _ _
    by_cases e : rq_pos nt ht < 8
    · refine pk_le 8 (rq_pos nt ht) (fun z => absurd z (by omega)) (fun _ => ?_)
      refine rq_isIn i 1 (rq_pos nt ht) hi (by omega) e (fun z => absurd (by rw [← eV]; exact z) (rq_pos_at nt ht e)) (fun _ => br_f (by decide) (br_t rfl ?_))
      cases nt <;> cases ht
      · exact absurd e (by decide)
      · exact H
      · exact H
      · exact absurd e (by decide)
    · refine pk_le 8 (rq_pos nt ht) (fun _ => ?_) (fun z => absurd z (by omega)) (ha := by omega) (hb := by have := rq_pos_le nt ht; omega)
      cases nt <;> cases ht
      · exact H
      · exact absurd (show rq_pos false true < 8 by decide) e
      · exact absurd (show rq_pos true false < 8 by decide) e
      · exact H
  · intro n k _ hk _ hw
    have h8 := rq_pos_le nt ht
    refine pk_le 8 k (fun z => absurd z (by omega)) (fun _ => ?_)
    exact rq_isIn i 1 k hi (by omega) (by omega) (fun _ => br_t rfl (nm_r (nI_1 k) (hw () trivial))) (fun z => absurd (by rw [eV]; exact rq_pos_lo nt ht k (by omega) hk) z)
theorem rq_fittingF {post : Int32 → Prop} {r : Int32} (hr : r < 0 ∨ nI 3 ≤ r) (H : post (-1)) : wpX_fitting post (p, K, A, B, S, WK, WA, WB, NG, W, BF, BD, TT) r 0 := by
  unfold wpX_fitting
  dsimp only
  exact rq_ruleF hr (br_t rfl H)
theorem rq_fittingN {post : Int32 → Prop} {i : Nat} (hi : i < 3) (hN : rq_N S W) (H : post (-1)) : wpX_fitting post (p, K, A, B, S, WK, WA, WB, NG, W, BF, BD, TT) (nI i) 0 := by
  unfold wpX_fitting
  dsimp only
  refine rq_ruleT hi (br_f (by decide) (br_f (by decide) ⟨pk_in i 3 hi, ?_⟩))
  rw [nI_clamp (show i < 2 ^ 31 by omega), hN.1 i hi]
  exact br_f (by decide) H
/-- no fact: nothing fits -/
theorem rq_fittingC0 {post : Int32 → Prop} {i : Nat} (hi : i < 3) (eS : S i = 1) (H : post 0) : wpX_fitting post (0, K, A, B, S, WK, WA, WB, NG, W, BF, BD, TT) (nI i) 0 := by
  unfold wpX_fitting
  dsimp only
  refine rq_ruleT hi (br_f (by decide) (br_f (by decide) ⟨pk_in i 3 hi, ?_⟩))
  rw [nI_clamp (show i < 2 ^ 31 by omega), eS]
  refine br_t (by decide) ?_
  exact pk_loop (σ := Unit) (fun n g _ => wX_fitting_28 post (nI i) 0 0 K A B S WK WA WB NG W BF BD TT n 0 (nI g)) (fun _ _ => True) 7 0 () (by omega) trivial
    (fun n _ _ => pk_le 7 7 (fun _ => H) (fun z => absurd z (by omega)))
    (fun n g _ hg _ hw => pk_le 7 g (fun z => absurd z (by omega)) (fun _ => rq_has0 g hg (br_t rfl (nm_r (e' := 0) rfl (nm_r (nI_1 g) (hw () trivial))))))
theorem rq_const {post : Int32 → Prop} {x v : Nat} {m : Bool} {q0 q1 : Int32} (hx : x < 8) (hv : v < 4) (hm : m = true ↔ 3 < x ∨ x = v) (H : post (rq_b m)) (e0 : q0 = nI x) (e1 : q1 = nI v) : wpX_constant post () q0 q1 := by
  subst e0 e1
  cases m with
  | true => exact pk_le 4 x (fun _ => H) (fun z => pk_eq x v (fun _ => H) (fun e => absurd (hm.mp rfl) (by omega)))
  | false => exact pk_le 4 x (fun z => absurd (hm.mpr (Or.inl z)) (by decide)) (fun z => pk_eq x v (fun e => absurd (hm.mpr (Or.inr e)) (by decide)) (fun _ => H))
theorem rq_looks {post : Int32 → Prop} {c kd wk x y a b : Nat} {pl : Bool} {q1 : Int32} (hc : c < 9) (hkd : kd < 4) (hwk : wk < 4) (hx : x < 8) (hy : y < 8) (ha : a < 4) (hb : b < 4)
    (eK : K 0 = nI kd) (eA : A 0 = nI a) (eB : B 0 = nI b) (eWK : WK c = nI wk) (eWA : WA c = nI x) (eWB : WB c = nI y)
    (hp : pl = true ↔ kd = wk ∧ (3 < x ∨ x = a) ∧ (3 < y ∨ y = b)) (H : post (rq_b pl)) (e1 : q1 = nI 0 := by rfl) :
    wpX_looksRight post (p, K, A, B, S, WK, WA, WB, NG, W, BF, BD, TT) (nI c) q1 := by
  subst e1
  have hF : ¬ (kd = wk ∧ (3 < x ∨ x = a) ∧ (3 < y ∨ y = b)) → post 0 := by
    intro h
    have e : pl = false := by
      cases pl
      · rfl
      · exact absurd (hp.mp rfl) h
    rw [e] at H
    exact H
  unfold wpX_looksRight
  dsimp only
  rw [nI_clamp (show c < 2 ^ 31 by omega), nI_clamp (show 0 < 2 ^ 31 by omega), eK, eWK]
  refine ⟨pk_in 0 7 (by omega), pk_in c 9 hc, pk_eq kd wk (fun ek => ⟨pk_in c 9 hc, pk_in 0 7 (by omega), ?_⟩) (fun e => hF (fun h => e h.1))⟩
  refine rq_const (m := decide (3 < x ∨ x = a)) hx ha (decide_eq_true_iff) ?_ eWA eA
  by_cases h1 : 3 < x ∨ x = a
  · rw [decide_eq_true h1]
    refine br_f (by decide) ⟨pk_in c 9 hc, pk_in 0 7 (by omega), ?_⟩
    refine rq_const (m := pl) hy hb (hp.trans ⟨fun t => t.2.2, fun t => ⟨ek, h1, t⟩⟩) ?_ eWB eB
    cases pl with
    | true => exact br_f (by decide) H
    | false => exact br_t rfl H
  · rw [decide_eq_false h1]
    exact br_t rfl (hF (fun t => h1 t.2.1))
theorem rq_fittingC1 {post : Int32 → Prop} {i kd wk x y a b : Nat} {nt pl : Bool} {v : Int64} (hi : i < 3) (hkd : kd < 4) (hwk : wk < 4) (hx : x < 8) (hy : y < 8) (ha : a < 4) (hb : b < 4)
    (eK : K 0 = nI kd) (eA : A 0 = nI a) (eB : B 0 = nI b) (hC : rq_C i wk x y nt v S WK WA WB NG W)
    (hp : pl = true ↔ kd = wk ∧ (3 < x ∨ x = a) ∧ (3 < y ∨ y = b)) (H : post (rq_b pl)) : wpX_fitting post (1, K, A, B, S, WK, WA, WB, NG, W, BF, BD, TT) (nI i) 0 := by
  unfold wpX_fitting
  dsimp only
  refine rq_ruleT hi (br_f (by decide) (br_f (by decide) ⟨pk_in i 3 hi, ?_⟩))
  rw [nI_clamp (show i < 2 ^ 31 by omega), hC.1]
  refine br_t (by decide) ?_
  refine pk_loop (σ := Unit) (fun n g _ => wX_fitting_28 post (nI i) 0 1 K A B S WK WA WB NG W BF BD TT n (if 0 < g then rq_b pl else 0) (nI g)) (fun _ _ => True) 7 0 () (by omega) trivial
    (fun n _ _ => pk_le 7 7 (fun _ => H) (fun z => absurd z (by omega))) ?_
  intro n g _ hg _ hw
  have hw' := hw () trivial
  rw [if_pos (by omega)] at hw'
  refine pk_le 7 g (fun z => absurd z (by omega)) (fun _ => ?_)
  by_cases g0 : g = 0
  · subst g0
    refine rq_has1 (br_f (by decide) ?_)
    rw [rq_cell i hi]
    refine rq_looks (by omega) hkd hwk hx hy ha hb eK eA eB hC.2.2.1 hC.2.2.2.1 hC.2.2.2.2.1 hp ?_
    cases pl with
    | false => exact br_t rfl (nm_r (e' := 0) rfl (nm_r (nI_1 0) hw'))
    | true => exact br_f (by decide) (nm_r (e' := 1) rfl (nm_r (nI_1 0) hw'))
  · refine rq_hasN g hg g0 (br_t rfl (nm_r (e' := rq_b pl) ?_ (nm_r (nI_1 g) hw')))
    rw [if_pos (by omega)]
    cases pl <;> rfl
theorem rq_holds0 {post : Int32 → Prop} {c f : Int32} (H : post 0) : wpX_holds post () c 0 f := by
  unfold wpX_holds
  exact ⟨0 + 1, br_t (by decide) H⟩
theorem rq_holds1 {post : Int32 → Prop} {k : Nat} (hk : k < 8) (h0 : k ≠ 0 → post 0) (h1 : k = 0 → post 1) : wpX_holds post () (nI k) 1 0 := by
  unfold wpX_holds
  refine ⟨1 + 1, br_f (by decide) ?_⟩
  by_cases e : k = 0
  · exact br_t ((rq_lo7 k hk).mpr e) (h1 e)
  · exact br_f (fun z => e ((rq_lo7 k hk).mp z)) (nm_r (e' := 1) rfl (br_t (by decide) (h0 e)))
/-- a rule without a condition adds nothing -/
theorem rq_uses0 {post : Int32 → Prop} {J : Int32 → Int32 → Prop} {j : Nat} {u : Int32} (hj : j < 3) (eW : W (11 * j) = 1) (H : J u (nI (j + 1))) :
    ∃ n, wX_uses_30 post J 0 (nI j) 0 p K A B S WK WA WB NG W BF BD TT n u 0 := by
  refine ⟨1 + 1, ?_⟩
  refine pk_le 1 0 (fun z => absurd z (by omega)) (fun _ => ?_)
  refine rq_isIn j 0 0 hj (by omega) (by omega) (fun z => absurd rfl ((rq_bit1 0 (by omega)).mp (by rw [← eW]; exact z))) (fun _ => br_f (by decide) ?_)
  refine rq_holds0 (br_t rfl (nm_r (e' := u) (by simp) (nm_r (e' := 1) rfl ?_)))
  exact pk_le 1 1 (fun _ => nm_r (nI_1 j) H) (fun z => absurd z (by omega))
theorem rq_uses1 {post : Int32 → Prop} {J : Int32 → Int32 → Prop} {j : Nat} (hj : j < 3) {m : Bool} (hm : m = true ↔ ¬ rq_bit (W (11 * j + 1)) (nI 0) = 0) (H : J (rq_b m) (nI (j + 1))) :
    ∃ n, wX_uses_30 post J 0 (nI j) 1 p K A B S WK WA WB NG W BF BD TT n 0 0 := by
  refine pk_loop (σ := Unit) (fun n k _ => wX_uses_30 post J 0 (nI j) 1 p K A B S WK WA WB NG W BF BD TT n (if 0 < k then rq_b m else 0) (nI k)) (fun _ _ => True) 8 0 () (by omega) trivial
    (fun n _ _ => pk_le 8 8 (fun _ => nm_r (nI_1 j) H) (fun z => absurd z (by omega))) ?_
  intro n k _ hk _ hw
  have hw' := hw () trivial
  rw [if_pos (by omega)] at hw'
  refine pk_le 8 k (fun z => absurd z (by omega)) (fun _ => ?_)
  by_cases k0 : k = 0
  · subst k0
    cases m with
    | true => exact rq_isIn j 1 0 hj (by omega) hk (fun z => absurd z (hm.mp rfl)) (fun z => br_f (by decide) (rq_holds1 hk (fun e => absurd rfl e) (fun _ => br_f (by decide) (nm_r (e' := 1) rfl (nm_r (nI_1 0) hw')))))
    | false => exact rq_isIn j 1 0 hj (by omega) hk (fun z => br_t rfl (nm_r (e' := 0) rfl (nm_r (nI_1 0) hw'))) (fun z => absurd (hm.mpr z) (by decide))
  · have e0 : (if 0 < k then rq_b m else 0) + 0 = rq_b m := by
      rw [if_pos (by omega)]
      cases m <;> rfl
    exact rq_isIn j 1 k hj (by omega) hk (fun z => br_t rfl (nm_r e0 (nm_r (nI_1 k) hw'))) (fun z => br_f (by decide) (rq_holds1 hk (fun _ => br_t rfl (nm_r e0 (nm_r (nI_1 k) hw'))) (fun e => absurd e k0)))
theorem rq_usesF {post : Int32 → Prop} (H : post (-1)) : wpX_uses post (0, K, A, B, S, WK, WA, WB, NG, W, BF, BD, TT) 0 := by
  unfold wpX_uses
  dsimp only
  exact rq_has0 0 (by omega) (br_t rfl H)
theorem rq_usesN {post : Int32 → Prop} (hN : rq_N S W) (H : post 0) : wpX_uses post (1, K, A, B, S, WK, WA, WB, NG, W, BF, BD, TT) 0 := by
  unfold wpX_uses
  dsimp only
  refine rq_has1 (br_f (by decide) ?_)
  refine pk_loop (σ := Unit) (fun n j _ => wX_uses_14 post 0 1 K A B S WK WA WB NG W BF BD TT n 0 (nI j)) (fun _ _ => True) 3 0 () (by omega) trivial
    (fun n _ _ => pk_le 3 3 (fun _ => H) (fun z => absurd z (by omega))) ?_
  intro n j _ hj _ hw
  refine pk_le 3 j (fun z => absurd z (by omega)) (fun _ => ⟨pk_in j 3 hj, ?_⟩)
  rw [nI_clamp (show j < 2 ^ 31 by omega), hN.1 j hj]
  exact nm_e (rq_uses0 hj (hN.2 j hj) (hw () trivial))
theorem rq_usesC {post : Int32 → Prop} {i k x y : Nat} {nt ht : Bool} (hi : i < 3) (hC : rq_C i k x y nt (rq_v nt ht) S WK WA WB NG W) (H : post (rq_b (!nt && ht))) :
    wpX_uses post (1, K, A, B, S, WK, WA, WB, NG, W, BF, BD, TT) 0 := by
  unfold wpX_uses
  dsimp only
  refine rq_has1 (br_f (by decide) ?_)
  refine pk_loop (σ := Unit) (fun n j _ => wX_uses_14 post 0 1 K A B S WK WA WB NG W BF BD TT n (if i < j then rq_b (!nt && ht) else 0) (nI j)) (fun _ _ => True) 3 0 () (by omega) trivial
    (fun n _ _ => pk_le 3 3 (fun _ => by rw [if_pos hi]; exact H) (fun z => absurd z (by omega))) ?_
  intro n j _ hj _ hw
  have hw' := hw () trivial
  refine pk_le 3 j (fun z => absurd z (by omega)) (fun _ => ⟨pk_in j 3 hj, ?_⟩)
  rw [nI_clamp (show j < 2 ^ 31 by omega)]
  by_cases e : j = i
  · subst e
    rw [if_pos (by omega)] at hw'
    rw [hC.1, if_neg (by omega)]
    refine nm_e (rq_uses1 hj (m := (!nt && ht)) ?_ hw')
    rw [hC.2.2.2.2.2.2.2, rq_v0]
    cases nt <;> cases ht <;> decide
  · rw [hC.2.1 j hj e]
    have e2 : (if i < j + 1 then rq_b (!nt && ht) else 0) = (if i < j then rq_b (!nt && ht) else 0) := by
      by_cases g : i < j
      · rw [if_pos g, if_pos (by omega)]
      · rw [if_neg g, if_neg (by omega)]
    rw [e2] at hw'
    exact nm_e (rq_uses0 hj (hC.2.2.2.2.2.2.1 j hj) hw')
end
end
section
section
variable {post : Int32 → St0 → Prop} {mc ms kc ks : Nat} {x1 x2 x3 x4 x6 x7 x8 x9 x10 x11 : Int32} {ir gd fa pl ht nt : Bool}
theorem rq_nt {b : Bool} {P : Prop} (h : b = true ↔ P) (e : b = false) : ¬ P := fun t => absurd (h.mpr t) (by rw [e]; decide)
theorem rq_t402 {z0 z1 : Int32} (hz : z1 = z0) (h11 : x11 = cond fa (rq_b (gd && !nt && ht)) (-1)) (hp : post 1 ()) : wL_lawOf_402 post mc ms x11 (rq_b gd) (rq_b fa) (rq_b ht) (rq_b nt) z0 z1 kc ks := by
  unfold wL_lawOf_402
  refine br_t hz ?_
  cases fa with
  | false => exact br_t rfl (br_t h11 hp)
  | true =>
    refine br_f (by decide) ?_
    cases gd with
    | false => exact br_t rfl (br_t h11 hp)
    | true =>
      refine br_f (by decide) ?_
      cases nt with
      | true => exact br_f (by decide) (br_t h11 hp)
      | false =>
        refine br_t rfl ?_
        cases ht with
        | false => exact br_t rfl (br_t h11 hp)
        | true => exact br_f (by decide) (br_t h11 hp)
theorem rq_t378 {z0 z1 : Int32} (hz : z1 = z0) (h10 : x10 = cond gd (rq_b pl) (-1)) (h11 : x11 = cond fa (rq_b (gd && !nt && ht)) (-1)) (hp : post 1 ()) :
    wL_lawOf_378 post mc ms x10 x11 (rq_b gd) (rq_b fa) (rq_b pl) (rq_b ht) (rq_b nt) z0 z1 kc ks := by
  unfold wL_lawOf_378
  refine br_t hz ?_
  by_cases g : rq_b gd = 0
  · refine br_t g (rq_t402 ?_ h11 hp)
    cases gd with
    | false => exact h10
    | true => exact absurd g (by decide)
  · refine br_f g ?_
    have e : gd = true := by
      cases gd
      · exact absurd rfl g
      · rfl
    rw [e] at h10
    by_cases g2 : rq_b pl = 0
    · exact br_t g2 (rq_t402 (h10.trans g2) h11 hp)
    · refine br_f g2 (rq_t402 ?_ h11 hp)
      cases pl with
      | false => exact absurd rfl g2
      | true => exact h10
/-- how many matches the rule must have -/
def rq_many (ir gd nt ht : Bool) : Int32 := cond ir (cond gd (cond nt (cond ht 0 1) (cond ht 1 0)) 1) (-1)
/-- the first match -/
def rq_first (ir gd nt ht : Bool) : Int32 := cond ir (cond gd (cond nt (cond ht (-1) 511) (cond ht 504 (-1))) 511) (-1)
theorem rq_t337 {x20 z0 z1 : Int32} (h20 : x20 = rq_many ir gd nt ht) (hz : z1 = z0) (h8 : x8 = rq_many ir gd nt ht) (h9 : x9 = rq_first ir gd nt ht) (hg : gd = true → ir = true)
    (h10 : x10 = cond gd (rq_b pl) (-1)) (h11 : x11 = cond fa (rq_b (gd && !nt && ht)) (-1)) (hp : post 1 ()) :
    wL_lawOf_337 post mc ms x8 x9 x10 x11 (rq_b gd) (rq_b fa) (rq_b pl) (rq_b ht) (rq_b nt) x20 z0 z1 kc ks := by
  unfold wL_lawOf_337 wL_lawOf_375
  refine br_t hz (br_t (h8.trans h20.symm) ?_)
  subst h20
  cases ir with
  | false =>
    cases gd with
    | true => exact absurd (hg rfl) (by decide)
    | false => exact br_f (by show ¬ (1 : Int32) ≤ (-1); decide) (rq_t378 h9 h10 h11 hp)
  | true =>
    cases gd with
    | false => exact br_t (by show (1 : Int32) ≤ 1; decide) (br_t rfl (rq_t378 (gd := false) h9 h10 h11 hp))
    | true =>
      cases nt with
      | false =>
        cases ht with
        | false => exact br_f (by show ¬ (1 : Int32) ≤ 0; decide) (rq_t378 (gd := true) (nt := false) (ht := false) h9 h10 h11 hp)
        | true => exact br_t (by show (1 : Int32) ≤ 1; decide) (br_f (by decide) (br_t rfl (rq_t378 (gd := true) (nt := false) (ht := true) h9 h10 h11 hp)))
      | true =>
        cases ht with
        | true => exact br_f (by show ¬ (1 : Int32) ≤ 0; decide) (rq_t378 (gd := true) (nt := true) (ht := true) h9 h10 h11 hp)
        | false => exact br_t (by show (1 : Int32) ≤ 1; decide) (br_f (by decide) (br_f (by decide) (rq_t378 (gd := true) (nt := true) (ht := false) h9 h10 h11 hp)))
theorem rq_t308 {z0 : Int32} (h20 : z0 = rq_many ir gd nt ht) (h6 : x6 = cond gd 1 (-1)) (h7 : x7 = cond fa 0 (-1)) (h8 : x8 = rq_many ir gd nt ht) (h9 : x9 = rq_first ir gd nt ht) (hg : gd = true → ir = true)
    (h10 : x10 = cond gd (rq_b pl) (-1)) (h11 : x11 = cond fa (rq_b (gd && !nt && ht)) (-1)) (hp : post 1 ()) :
    wL_lawOf_308 post mc ms x6 x7 x8 x9 x10 x11 (rq_b gd) (rq_b fa) (rq_b pl) (rq_b ht) (rq_b nt) z0 kc ks := by
  have F : ∀ w : Int32, x6 = w → wL_lawOf_322 post mc ms x7 x8 x9 x10 x11 (rq_b gd) (rq_b fa) (rq_b pl) (rq_b ht) (rq_b nt) z0 w x6 kc ks := by
    intro w hw
    unfold wL_lawOf_322
    refine br_t hw ?_
    by_cases g : rq_b fa = 0
    · refine br_t g (rq_t337 h20 ?_ h8 h9 hg h10 h11 hp)
      cases fa with
      | false => exact h7
      | true => exact absurd g (by decide)
    · refine br_f g (rq_t337 h20 ?_ h8 h9 hg h10 h11 hp)
      cases fa with
      | false => exact absurd rfl g
      | true => exact h7
  unfold wL_lawOf_308
  by_cases g : rq_b gd = 0
  · refine br_t g (F _ ?_)
    cases gd with
    | false => exact h6
    | true => exact absurd g (by decide)
  · refine br_f g (F _ ?_)
    cases gd with
    | false => exact absurd rfl g
    | true => exact h6
theorem rq_t260 (h6 : x6 = cond gd 1 (-1)) (h7 : x7 = cond fa 0 (-1)) (h8 : x8 = rq_many ir gd nt ht) (h9 : x9 = rq_first ir gd nt ht) (hg : gd = true → ir = true)
    (h10 : x10 = cond gd (rq_b pl) (-1)) (h11 : x11 = cond fa (rq_b (gd && !nt && ht)) (-1)) (hp : post 1 ()) :
    wL_lawOf_260 post mc ms x6 x7 x8 x9 x10 x11 (rq_b ir) (rq_b gd) (rq_b fa) (rq_b pl) (rq_b ht) (rq_b nt) kc ks := by
  have F : ∀ z0 : Int32, z0 = rq_many ir gd nt ht → wL_lawOf_308 post mc ms x6 x7 x8 x9 x10 x11 (rq_b gd) (rq_b fa) (rq_b pl) (rq_b ht) (rq_b nt) z0 kc ks :=
    fun z0 h20 => rq_t308 h20 h6 h7 h8 h9 hg h10 h11 hp
  unfold wL_lawOf_260
  cases ir with
  | false => exact br_t rfl (F _ rfl)
  | true =>
    refine br_f (by decide) ?_
    cases gd with
    | false => exact br_t rfl (F _ rfl)
    | true =>
      refine br_f (by decide) ?_
      cases nt with
      | false =>
        refine br_t rfl ?_
        cases ht with
        | false => exact br_t rfl (F _ rfl)
        | true => exact br_f (by decide) (F _ rfl)
      | true =>
        refine br_f (by decide) ?_
        cases ht with
        | false => exact br_t rfl (F _ rfl)
        | true => exact br_f (by decide) (F _ rfl)
theorem rq_t241 (hn : nt = true ↔ gd = true ∧ ¬ x1 < 256) (H : wL_lawOf_260 post mc ms x6 x7 x8 x9 x10 x11 (rq_b ir) (rq_b gd) (rq_b fa) (rq_b pl) (rq_b ht) (rq_b nt) kc ks) :
    wL_lawOf_241 post mc ms x1 x6 x7 x8 x9 x10 x11 (rq_b ir) (rq_b gd) (rq_b fa) (rq_b pl) (rq_b ht) kc ks := by
  unfold wL_lawOf_241 wL_lawOf_259
  cases nt with
  | true =>
    obtain ⟨e, g⟩ := hn.mp rfl
    subst e
    exact br_f (by decide) (br_f g H)
  | false =>
    have h := rq_nt hn rfl
    refine br_c (fun _ => H) (fun g => br_c (fun _ => H) (fun g2 => absurd ⟨?_, g2⟩ h))
    cases gd with
    | false => exact absurd rfl g
    | true => rfl
theorem rq_t203 {X Y : Int32} (hh : ht = true ↔ pl = true ∧ (X < 4 ∨ X = 7 ∨ ¬ X = Y ∨ x3 = x4)) (H : wL_lawOf_241 post mc ms x1 x6 x7 x8 x9 x10 x11 (rq_b ir) (rq_b gd) (rq_b fa) (rq_b pl) (rq_b ht) kc ks) :
    wL_lawOf_203 post mc ms x1 x3 x4 x6 x7 x8 x9 x10 x11 (rq_b ir) (rq_b gd) (rq_b fa) X Y (rq_b pl) kc ks := by
  unfold wL_lawOf_203 wL_lawOf_240 wL_lawOf_236
  cases ht with
  | true =>
    obtain ⟨e, g⟩ := hh.mp rfl
    subst e
    refine br_f (by decide) (br_c (fun _ => H) (fun g1 => br_c (fun _ => H) (fun g2 => br_c (fun g3 => br_c (fun _ => H) (fun g4 => ?_)) (fun _ => H))))
    rcases g with g | g | g | g
    · exact absurd g g1
    · exact absurd g g2
    · exact absurd g3 g
    · exact absurd g g4
  | false =>
    have h := rq_nt hh rfl
    cases pl with
    | false => exact br_t rfl H
    | true => exact br_f (by decide) (br_c (fun g => absurd ⟨rfl, Or.inl g⟩ h) (fun g1 => br_c (fun g => absurd ⟨rfl, Or.inr (Or.inl g)⟩ h) (fun g2 => br_c (fun g3 => br_c (fun g => absurd ⟨rfl, Or.inr (Or.inr (Or.inr g))⟩ h) (fun g4 => H)) (fun g => absurd ⟨rfl, Or.inr (Or.inr (Or.inl g))⟩ h))))
theorem rq_t143 (hq : pl = true ↔ fa = true ∧ (x1 &&& 3) = x2 ∧ (3 < (x1 >>> ((2 : Int32) &&& 31)) &&& 7 ∨ (x1 >>> ((2 : Int32) &&& 31)) &&& 7 = x3) ∧ (3 < (x1 >>> ((5 : Int32) &&& 31)) &&& 7 ∨ (x1 >>> ((5 : Int32) &&& 31)) &&& 7 = x4))
    (H : wL_lawOf_203 post mc ms x1 x3 x4 x6 x7 x8 x9 x10 x11 (rq_b ir) (rq_b gd) (rq_b fa) ((x1 >>> ((2 : Int32) &&& 31)) &&& 7) ((x1 >>> ((5 : Int32) &&& 31)) &&& 7) (rq_b pl) kc ks) :
    wL_lawOf_143 post mc ms x1 x2 x3 x4 x6 x7 x8 x9 x10 x11 (rq_b ir) (rq_b gd) (rq_b fa) kc ks := by
  unfold wL_lawOf_143
  refine nm_e (nm_e ?_)
  cases pl with
  | true =>
    obtain ⟨e, g1, g2, g3⟩ := hq.mp rfl
    subst e
    have H' : wL_lawOf_185 post mc ms x1 x3 x4 x6 x7 x8 x9 x10 x11 (rq_b ir) (rq_b gd) (rq_b true) ((x1 >>> ((2 : Int32) &&& 31)) &&& 7) ((x1 >>> ((5 : Int32) &&& 31)) &&& 7) kc ks := by
      unfold wL_lawOf_185 wL_lawOf_198
      exact br_c (fun _ => H) (fun n1 => br_c (fun _ => H) (fun n2 => (g3.elim (fun t => absurd t n1) (fun t => absurd t n2))))
    exact br_f (by decide) (br_t g1 (br_c (fun _ => H') (fun n1 => br_c (fun _ => H') (fun n2 => (g2.elim (fun t => absurd t n1) (fun t => absurd t n2))))))
  | false =>
    have h := rq_nt hq rfl
    cases fa with
    | false =>
      refine br_t rfl ?_
      unfold wL_lawOf_202
      exact H
    | true =>
      have F : wL_lawOf_202 post mc ms x1 x3 x4 x6 x7 x8 x9 x10 x11 (rq_b ir) (rq_b gd) (rq_b true) ((x1 >>> ((2 : Int32) &&& 31)) &&& 7) ((x1 >>> ((5 : Int32) &&& 31)) &&& 7) kc ks := by
        unfold wL_lawOf_202
        exact H
      refine br_f (by decide) (br_c (fun g1 => ?_) (fun _ => F))
      have H' : (3 < (x1 >>> ((2 : Int32) &&& 31)) &&& 7 ∨ (x1 >>> ((2 : Int32) &&& 31)) &&& 7 = x3) → wL_lawOf_185 post mc ms x1 x3 x4 x6 x7 x8 x9 x10 x11 (rq_b ir) (rq_b gd) (rq_b true) ((x1 >>> ((2 : Int32) &&& 31)) &&& 7) ((x1 >>> ((5 : Int32) &&& 31)) &&& 7) kc ks := by
        intro g2
        unfold wL_lawOf_185
        exact br_c (fun t => absurd ⟨rfl, g1, g2, Or.inl t⟩ h) (fun _ => br_c (fun t => absurd ⟨rfl, g1, g2, Or.inr t⟩ h) (fun _ => F))
      exact br_c (fun t => H' (Or.inl t)) (fun _ => br_c (fun t => H' (Or.inr t)) (fun _ => F))
theorem rq_t107 (hf : fa = true ↔ ¬ x2 < 0 ∧ ¬ 2 < x2 ∧ ¬ x3 < 0 ∧ ¬ 3 < x3 ∧ ¬ x4 < 0 ∧ ¬ 3 < x4) (H : wL_lawOf_143 post mc ms x1 x2 x3 x4 x6 x7 x8 x9 x10 x11 (rq_b ir) (rq_b gd) (rq_b fa) kc ks) :
    wL_lawOf_107 post mc ms x1 x2 x3 x4 x6 x7 x8 x9 x10 x11 (rq_b ir) (rq_b gd) kc ks := by
  unfold wL_lawOf_107 wL_lawOf_142
  cases fa with
  | true =>
    obtain ⟨g1, g2, g3, g4, g5, g6⟩ := hf.mp rfl
    exact br_f g1 (br_f g2 (br_f g3 (br_f g4 (br_f g5 (br_f g6 H)))))
  | false =>
    have h := rq_nt hf rfl
    exact br_c (fun _ => H) (fun h1 => br_c (fun _ => H) (fun h2 => br_c (fun _ => H) (fun h3 => br_c (fun _ => H) (fun h4 => br_c (fun _ => H) (fun h5 => br_c (fun _ => H) (fun h6 => absurd ⟨h1, h2, h3, h4, h5, h6⟩ h))))))
theorem rq_t77 (hg : gd = true ↔ ir = true ∧ ¬ x1 < 0 ∧ ¬ 511 < x1 ∧ ¬ (x1 &&& 3) = 3) (H : wL_lawOf_107 post mc ms x1 x2 x3 x4 x6 x7 x8 x9 x10 x11 (rq_b ir) (rq_b gd) kc ks) :
    wL_lawOf_77 post mc ms x1 x2 x3 x4 x6 x7 x8 x9 x10 x11 (rq_b ir) kc ks := by
  unfold wL_lawOf_77 wL_lawOf_106
  cases gd with
  | true =>
    obtain ⟨e, g1, g2, g3⟩ := hg.mp rfl
    subst e
    exact br_f (by decide) (br_f g1 (br_f g2 (br_f g3 H)))
  | false =>
    have h := rq_nt hg rfl
    cases ir with
    | false => exact br_t rfl H
    | true => exact br_f (by decide) (br_c (fun _ => H) (fun h1 => br_c (fun _ => H) (fun h2 => br_c (fun _ => H) (fun h3 => absurd ⟨rfl, h1, h2, h3⟩ h))))
/-- the law's words on the answers, for flags that say what they are named for -/
theorem rq_end {x0 : Int32} (hr : ir = true ↔ ¬ x0 < 0 ∧ ¬ 2 < x0) (hg : gd = true ↔ ir = true ∧ ¬ x1 < 0 ∧ ¬ 511 < x1 ∧ ¬ (x1 &&& 3) = 3)
    (hf : fa = true ↔ ¬ x2 < 0 ∧ ¬ 2 < x2 ∧ ¬ x3 < 0 ∧ ¬ 3 < x3 ∧ ¬ x4 < 0 ∧ ¬ 3 < x4)
    (hq : pl = true ↔ fa = true ∧ (x1 &&& 3) = x2 ∧ (3 < (x1 >>> ((2 : Int32) &&& 31)) &&& 7 ∨ (x1 >>> ((2 : Int32) &&& 31)) &&& 7 = x3) ∧ (3 < (x1 >>> ((5 : Int32) &&& 31)) &&& 7 ∨ (x1 >>> ((5 : Int32) &&& 31)) &&& 7 = x4))
    (hh : ht = true ↔ pl = true ∧ ((x1 >>> ((2 : Int32) &&& 31)) &&& 7 < 4 ∨ (x1 >>> ((2 : Int32) &&& 31)) &&& 7 = 7 ∨ ¬ (x1 >>> ((2 : Int32) &&& 31)) &&& 7 = (x1 >>> ((5 : Int32) &&& 31)) &&& 7 ∨ x3 = x4))
    (hn : nt = true ↔ gd = true ∧ ¬ x1 < 256)
    (h6 : x6 = cond gd 1 (-1)) (h7 : x7 = cond fa 0 (-1)) (h8 : x8 = rq_many ir gd nt ht) (h9 : x9 = rq_first ir gd nt ht)
    (h10 : x10 = cond gd (rq_b pl) (-1)) (h11 : x11 = cond fa (rq_b (gd && !nt && ht)) (-1)) (hp : post 1 ()) :
    (x0 < 0 → wL_lawOf_76 post mc ms x1 x2 x3 x4 x6 x7 x8 x9 x10 x11 kc ks) ∧ (¬ x0 < 0 → (2 < x0 → wL_lawOf_76 post mc ms x1 x2 x3 x4 x6 x7 x8 x9 x10 x11 kc ks) ∧ (¬ 2 < x0 → wL_lawOf_77 post mc ms x1 x2 x3 x4 x6 x7 x8 x9 x10 x11 1 kc ks)) := by
  have H : wL_lawOf_77 post mc ms x1 x2 x3 x4 x6 x7 x8 x9 x10 x11 (rq_b ir) kc ks :=
    rq_t77 hg (rq_t107 hf (rq_t143 hq (rq_t203 hh (rq_t241 hn (rq_t260 h6 h7 h8 h9 (fun e => (hg.mp e).1) h10 h11 hp)))))
  unfold wL_lawOf_76
  cases ir with
  | true =>
    obtain ⟨g1, g2⟩ := hr.mp rfl
    exact br_f g1 (br_f g2 H)
  | false =>
    have h := rq_nt hr rfl
    exact br_c (fun _ => H) (fun g1 => br_c (fun _ => H) (fun g2 => absurd ⟨g1, g2⟩ h))
end
end
section
theorem rq_3le {r : Int32} (h : nI 3 ≤ r) : ¬ r < 0 ∧ 2 < r := by
  have e3 : (nI 3).toInt = 3 := nI_toInt (by omega)
  have e2 : (2 : Int32).toInt = 2 := by decide
  have e0 : (0 : Int32).toInt = 0 := by decide
  rw [Int32.le_iff_toInt_le, e3] at h
  rw [Int32.lt_iff_toInt_lt, Int32.lt_iff_toInt_lt, e0, e2]
  omega
theorem rq_of {x M : Int32} {n : Nat} (hM : M.toInt = n) (h : ¬ x < 0) (h5 : ¬ M < x) : ∃ j : Nat, j ≤ n ∧ x = nI j := by
  refine nI_of2 hM h ?_
  rw [Int32.le_iff_toInt_le]
  rw [Int32.lt_iff_toInt_lt] at h5
  omega
theorem rq_lt3 {x : Nat} (hx : x < 8) : (3 : Int32) < nI x ↔ 3 < x := nI_ltI (a := 3) (by omega) (by omega)
theorem rq_lt4 {x : Nat} (hx : x < 8) : nI x < (4 : Int32) ↔ x < 4 := nI_ltI (b := 4) (by omega) (by omega)
theorem rq_eq7 {x : Nat} (hx : x < 8) : nI x = (7 : Int32) ↔ x = 7 := nI_eq (b := 7) (by omega) (by omega)
theorem rq_eqn {x v : Nat} (hx : x < 8) (hv : v < 8) : nI x = nI v ↔ x = v := nI_eq (by omega) (by omega)
section
variable {p : Int32} {K A B S WK WA WB NG : Nat → Int32} {W BF : Nat → Int64} {BD TT : Nat → Int32}
theorem rq_condR {post : Int32 → St2 → Prop} {r w : Int32} (hr : r < 0 ∨ nI 3 ≤ r) (H : post (-1) (p, K, A, B, S, WK, WA, WB, NG, W, BF, BD, TT)) :
    wpX_condition post (p, K, A, B, S, WK, WA, WB, NG, W, BF, BD, TT) r w := by
  unfold wpX_condition
  dsimp only
  exact rq_ruleF hr (br_t rfl H)
theorem rq_condF {post : Int32 → St2 → Prop} {i : Nat} {w : Int32} (hi : i < 3) (hn : ¬ (¬ w < 0 ∧ ¬ 511 < w ∧ ¬ (w &&& 3) = 3)) (H : post (-1) (p, K, A, B, S, WK, WA, WB, NG, W, BF, BD, TT)) :
    wpX_condition post (p, K, A, B, S, WK, WA, WB, NG, W, BF, BD, TT) (nI i) w := by
  unfold wpX_condition
  dsimp only
  refine rq_ruleT hi (br_f (by decide) (br_c (fun _ => H) (fun h1 => br_c (fun _ => H) (fun h2 => br_c (fun g => absurd ⟨h1, h2, fun e => ?_⟩ hn) (fun _ => H)))))
  rw [e] at g
  exact absurd g (by decide)
end
theorem rq_law {post : Int32 → Prop} (hp : post 1) (r w k a b : Int32) : wpL_lawOf (fun z _ => post z) 13 145 () r w k a b := by
  unfold wpL_lawOf
  refine ⟨by omega, by omega, 12, 132, by omega, by omega, rq_init (fun V hV => ?_)⟩
  have hN : rq_N (fun _ => 0) V := ⟨fun _ _ => rfl, hV⟩
  by_cases hf : ¬ k < 0 ∧ ¬ 2 < k ∧ ¬ a < 0 ∧ ¬ 3 < a ∧ ¬ b < 0 ∧ ¬ 3 < b
  · have hf' : true = true ↔ ¬ k < 0 ∧ ¬ 2 < k ∧ ¬ a < 0 ∧ ¬ 3 < a ∧ ¬ b < 0 ∧ ¬ 3 < b := ⟨fun _ => hf, fun _ => rfl⟩
    obtain ⟨k', hk, ek⟩ := rq_of (M := 2) (n := 2) (by decide) hf.1 hf.2.1
    obtain ⟨a', ha, ea⟩ := rq_of (M := 3) (n := 3) (by decide) hf.2.2.1 hf.2.2.2.1
    obtain ⟨b', hb, eb⟩ := rq_of (M := 3) (n := 3) (by decide) hf.2.2.2.2.1 hf.2.2.2.2.2
    subst ek ea eb
    rcases pk_ix r (n := 3) (by omega) with h | h | ⟨i, hi, er⟩
    · refine rq_condR (Or.inl h) (rq_addN (by omega) (by omega) (by omega) hN (fun K' A' B' V' G D T hN' => ?_))
      exact rq_matchesF (Or.inl h) (rq_matchF (Or.inl h) (rq_fittingF (Or.inl h) (rq_usesN hN' (rq_end (ir := false) (gd := false) (fa := true) (nt := false)
        ⟨fun t => absurd t (by decide), fun t => absurd h t.1⟩ ⟨fun t => absurd t (by decide), fun t => t.1⟩ hf' decide_eq_true_iff decide_eq_true_iff ⟨fun t => absurd t (by decide), fun t => t.1⟩ rfl rfl rfl rfl rfl rfl hp))))
    · have h32 := rq_3le h
      refine rq_condR (Or.inr h) (rq_addN (by omega) (by omega) (by omega) hN (fun K' A' B' V' G D T hN' => ?_))
      exact rq_matchesF (Or.inr h) (rq_matchF (Or.inr h) (rq_fittingF (Or.inr h) (rq_usesN hN' (rq_end (ir := false) (gd := false) (fa := true) (nt := false)
        ⟨fun t => absurd t (by decide), fun t => absurd h32.2 t.2⟩ ⟨fun t => absurd t (by decide), fun t => t.1⟩ hf' decide_eq_true_iff decide_eq_true_iff ⟨fun t => absurd t (by decide), fun t => t.1⟩ rfl rfl rfl rfl rfl rfl hp))))
    · subst er
      have hr' : true = true ↔ ¬ nI i < 0 ∧ ¬ 2 < nI i := ⟨fun _ => ⟨nI_pos (by omega), nI_nlt (a := 2) (by omega) (by omega)⟩, fun _ => rfl⟩
      by_cases hg : ¬ w < 0 ∧ ¬ 511 < w ∧ ¬ (w &&& 3) = 3
      · obtain ⟨q, hq, ew⟩ := rq_of (M := 511) (n := 511) (by decide) hg.1 hg.2.1
        subst ew
        obtain ⟨e1, e2, e3⟩ := rq_w q (by omega)
        have h3 : q % 4 ≠ 3 := fun t => hg.2.2 (by rw [e1, t]; rfl)
        have hx : q / 4 % 8 < 8 := by omega
        have hy : q / 32 % 8 < 8 := by omega
        have hpl : decide (k' = q % 4 ∧ (3 < q / 4 % 8 ∨ q / 4 % 8 = a') ∧ (3 < q / 32 % 8 ∨ q / 32 % 8 = b')) = true ↔ true = true ∧ (nI q &&& 3) = nI k' ∧ (3 < (nI q >>> ((2 : Int32) &&& 31)) &&& 7 ∨ (nI q >>> ((2 : Int32) &&& 31)) &&& 7 = nI a') ∧ (3 < (nI q >>> ((5 : Int32) &&& 31)) &&& 7 ∨ (nI q >>> ((5 : Int32) &&& 31)) &&& 7 = nI b') := by
          rw [decide_eq_true_iff, e1, e2, e3, rq_lt3 hx, rq_lt3 hy, rq_eqn hx (by omega), rq_eqn hy (by omega), rq_eqn (x := q % 4) (v := k') (by omega) (by omega)]
          exact ⟨fun t => ⟨rfl, t.1.symm, t.2.1, t.2.2⟩, fun t => ⟨t.2.1.symm, t.2.2.1, t.2.2.2⟩⟩
        have hht : decide (decide (k' = q % 4 ∧ (3 < q / 4 % 8 ∨ q / 4 % 8 = a') ∧ (3 < q / 32 % 8 ∨ q / 32 % 8 = b')) = true ∧ (q / 4 % 8 < 4 ∨ q / 4 % 8 = 7 ∨ q / 4 % 8 ≠ q / 32 % 8 ∨ a' = b')) = true ↔ decide (k' = q % 4 ∧ (3 < q / 4 % 8 ∨ q / 4 % 8 = a') ∧ (3 < q / 32 % 8 ∨ q / 32 % 8 = b')) = true ∧ ((nI q >>> ((2 : Int32) &&& 31)) &&& 7 < 4 ∨ (nI q >>> ((2 : Int32) &&& 31)) &&& 7 = 7 ∨ ¬ (nI q >>> ((2 : Int32) &&& 31)) &&& 7 = (nI q >>> ((5 : Int32) &&& 31)) &&& 7 ∨ nI a' = nI b') := by
          rw [decide_eq_true_iff, e2, e3, rq_lt4 hx, rq_eq7 hx, rq_eqn hx hy, rq_eqn (x := a') (v := b') (by omega) (by omega)]
        have hit : decide (decide (k' = q % 4 ∧ (3 < q / 4 % 8 ∨ q / 4 % 8 = a') ∧ (3 < q / 32 % 8 ∨ q / 32 % 8 = b')) = true ∧ (q / 4 % 8 < 4 ∨ q / 4 % 8 = 7 ∨ q / 4 % 8 ≠ q / 32 % 8 ∨ a' = b')) = true ↔ rq_hit k' (q % 4) (q / 4 % 8) (q / 32 % 8) a' b' := by
          rw [decide_eq_true_iff, decide_eq_true_iff]
          exact ⟨fun t => ⟨t.1.1, t.1.2.1, t.1.2.2, t.2⟩, fun t => ⟨⟨t.1, t.2.1, t.2.2.1⟩, t.2.2.2⟩⟩
        revert hpl hht hit
        generalize decide (decide (k' = q % 4 ∧ (3 < q / 4 % 8 ∨ q / 4 % 8 = a') ∧ (3 < q / 32 % 8 ∨ q / 32 % 8 = b')) = true ∧ (q / 4 % 8 < 4 ∨ q / 4 % 8 = 7 ∨ q / 4 % 8 ≠ q / 32 % 8 ∨ a' = b')) = ht
        intro hpl hht hit
        have hnt : decide (256 ≤ q) = true ↔ true = true ∧ ¬ nI q < 256 := by
          rw [decide_eq_true_iff]
          exact ⟨fun t => ⟨rfl, nI_nlt (b := 256) t (by omega)⟩, fun t => Nat.le_of_not_lt (fun z => t.2 (nI_lt (b := 256) z (by omega)))⟩
        refine rq_cond hi (by omega) h3 decide_eq_true_iff hN (fun S' WK' WA' WB' NG' V1 G1 D1 T1 hC => ?_)
        refine rq_addC hi (by omega) (by omega) (by omega) (by omega) hx hy hit hC (fun K' A' B' V2 G2 D2 T2 eK eA eB hC2 => ?_)
        refine rq_matchesC hi hC2 (rq_matchC hi hC2 (rq_fittingC1 hi (by omega) (by omega) hx hy (by omega) (by omega) eK eA eB hC2 decide_eq_true_iff (rq_usesC hi hC2 ?_)))
        refine rq_end (ir := true) (gd := true) (fa := true) hr' ⟨fun _ => ⟨rfl, hg⟩, fun _ => rfl⟩ hf' hpl hht hnt rfl rfl ?_ rfl rfl rfl hp
        cases decide (256 ≤ q) <;> cases ht <;> rfl
      · refine rq_condF hi hg (rq_addN (by omega) (by omega) (by omega) hN (fun K' A' B' V' G D T hN' => ?_))
        exact rq_matchesN hi hN' (rq_matchN hi hN' (rq_fittingN hi hN' (rq_usesN hN' (rq_end (ir := true) (gd := false) (fa := true) (nt := false)
          hr' ⟨fun t => absurd t (by decide), fun t => absurd t.2 hg⟩ hf' decide_eq_true_iff decide_eq_true_iff ⟨fun t => absurd t (by decide), fun t => t.1⟩ rfl rfl rfl rfl rfl rfl hp))))
  · have hf' : false = true ↔ ¬ k < 0 ∧ ¬ 2 < k ∧ ¬ a < 0 ∧ ¬ 3 < a ∧ ¬ b < 0 ∧ ¬ 3 < b := ⟨fun t => absurd t (by decide), fun t => absurd t hf⟩
    rcases pk_ix r (n := 3) (by omega) with h | h | ⟨i, hi, er⟩
    · refine rq_condR (Or.inl h) (rq_addF hf ?_)
      exact rq_matchesF (Or.inl h) (rq_matchF (Or.inl h) (rq_fittingF (Or.inl h) (rq_usesF (rq_end (ir := false) (gd := false) (fa := false) (nt := false)
        ⟨fun t => absurd t (by decide), fun t => absurd h t.1⟩ ⟨fun t => absurd t (by decide), fun t => t.1⟩ hf' decide_eq_true_iff decide_eq_true_iff ⟨fun t => absurd t (by decide), fun t => t.1⟩ rfl rfl rfl rfl rfl rfl hp))))
    · have h32 := rq_3le h
      refine rq_condR (Or.inr h) (rq_addF hf ?_)
      exact rq_matchesF (Or.inr h) (rq_matchF (Or.inr h) (rq_fittingF (Or.inr h) (rq_usesF (rq_end (ir := false) (gd := false) (fa := false) (nt := false)
        ⟨fun t => absurd t (by decide), fun t => absurd h32.2 t.2⟩ ⟨fun t => absurd t (by decide), fun t => t.1⟩ hf' decide_eq_true_iff decide_eq_true_iff ⟨fun t => absurd t (by decide), fun t => t.1⟩ rfl rfl rfl rfl rfl rfl hp))))
    · subst er
      have hr' : true = true ↔ ¬ nI i < 0 ∧ ¬ 2 < nI i := ⟨fun _ => ⟨nI_pos (by omega), nI_nlt (a := 2) (by omega) (by omega)⟩, fun _ => rfl⟩
      by_cases hg : ¬ w < 0 ∧ ¬ 511 < w ∧ ¬ (w &&& 3) = 3
      · obtain ⟨q, hq, ew⟩ := rq_of (M := 511) (n := 511) (by decide) hg.1 hg.2.1
        subst ew
        obtain ⟨e1, e2, e3⟩ := rq_w q (by omega)
        have h3 : q % 4 ≠ 3 := fun t => hg.2.2 (by rw [e1, t]; rfl)
        have hnt : decide (256 ≤ q) = true ↔ true = true ∧ ¬ nI q < 256 := by
          rw [decide_eq_true_iff]
          exact ⟨fun t => ⟨rfl, nI_nlt (b := 256) t (by omega)⟩, fun t => Nat.le_of_not_lt (fun z => t.2 (nI_lt (b := 256) z (by omega)))⟩
        refine rq_cond hi (by omega) h3 decide_eq_true_iff hN (fun S' WK' WA' WB' NG' V1 G1 D1 T1 hC => ?_)
        refine rq_addF hf ?_
        refine rq_matchesC hi hC (rq_matchC hi hC (rq_fittingC0 hi hC.1 (rq_usesF ?_)))
        refine rq_end (ir := true) (gd := true) (fa := false) (pl := false) (ht := false) hr' ⟨fun _ => ⟨rfl, hg⟩, fun _ => rfl⟩ hf' ⟨fun t => absurd t (by decide), fun t => t.1⟩ ⟨fun t => absurd t (by decide), fun t => t.1⟩ hnt rfl rfl ?_ rfl rfl rfl hp
        cases decide (256 ≤ q) <;> rfl
      · refine rq_condF hi hg (rq_addF hf ?_)
        exact rq_matchesN hi hN (rq_matchN hi hN (rq_fittingN hi hN (rq_usesF (rq_end (ir := true) (gd := false) (fa := false) (nt := false)
          hr' ⟨fun t => absurd t (by decide), fun t => absurd t.2 hg⟩ hf' decide_eq_true_iff decide_eq_true_iff ⟨fun t => absurd t (by decide), fun t => t.1⟩ rfl rfl rfl rfl rfl rfl hp))))
theorem rq_at {post : Int32 → Prop} {xs : Nat → Int32} {L : Nat} (j : Nat) (hL : L ≤ 5) (hj : j < 5) (H : ∀ x, post x) {q : Int32} (e : q = nI j := by rfl) : wpL_cellAt post L xs () q := by
  subst e
  exact pk_le L j (fun _ => H _) (fun z => ⟨pk_in j L z, H _⟩)
end
section
theorem i_vc (xs : Nat → Int32) (L : Nat) (hL : L ≤ 5) : wpL_law (fun r => r = 1) L xs := by
  unfold wpL_law
  exact rq_at 0 hL (by omega) (fun r => rq_at 1 hL (by omega) (fun w => rq_at 2 hL (by omega) (fun k => rq_at 3 hL (by omega) (fun a => rq_at 4 hL (by omega) (fun b => ⟨13, 145, by omega, by omega, rq_law (post := fun r => r = 1) rfl r w k a b⟩)))))
end
