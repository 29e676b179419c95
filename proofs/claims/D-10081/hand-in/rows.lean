section
/-! the pure picture of one frame: a field is a number below a million, digit by digit: place 0, place 1, points 0, points 1, pause 0, pause 1 -/
def rg_to (m : Int32) (a : Nat) : Nat := if m = 1 then a - 1 else if m = 2 then (if a < 9 then a + 1 else a) else a
def rg_go (m : Int32) (a b : Nat) : Nat := if rg_to m a = b then a else rg_to m a
def rg_near (a b : Nat) : Bool := decide (a ≤ b + 1) && decide (b ≤ a + 1)
def rg_hit (m : Int32) (r : Bool) (h : Nat) : Nat := if m = 3 then (if r = true then h - 1 else h) else h
def rg_rest (m : Int32) (q : Nat) : Nat := if m = 3 then 2 else q
def rg_mv (q : Nat) (m : Int32) : Int32 := if q = 0 then m else -1
def rg_enc (a b h g p q : Nat) : Nat := a + 10 * b + 100 * h + 1000 * g + 10000 * p + 100000 * q
def rg_fin (a b h g p q : Nat) (f0 f1 : Int32) : Nat := rg_enc a b (rg_hit f1 (rg_near a b) h) (rg_hit f0 (rg_near a b) g) (rg_rest f0 p) (rg_rest f1 q)
def rg_mid (a b h g p q : Nat) (f0 f1 : Int32) : Nat := rg_fin (rg_go f0 a b) (rg_go f1 b (rg_go f0 a b)) h g p q f0 f1
/-- the game is over: a player's points are used up -/
abbrev rg_ov (n : Nat) : Prop := n / 100 % 10 = 0 ∨ n / 1000 % 10 = 0
/-- one frame -/
def rg_step (n : Nat) (m0 m1 : Int32) : Nat := if rg_ov n then n else rg_mid (n % 10) (n / 10 % 10) (n / 100 % 10) (n / 1000 % 10) (n / 10000 % 10 - 1) (n / 100000 - 1) (rg_mv (n / 10000 % 10) m0) (rg_mv (n / 100000) m1)
theorem rg_to_le {m : Int32} {a : Nat} (h : a ≤ 9) : rg_to m a ≤ 9 := by
  unfold rg_to
  split
  · omega
  · split
    · split <;> omega
    · exact h
theorem rg_go_le {m : Int32} {a b : Nat} (h : a ≤ 9) : rg_go m a b ≤ 9 := by
  unfold rg_go
  split
  · exact h
  · exact rg_to_le h
theorem rg_hit_le (m : Int32) (r : Bool) (h : Nat) : rg_hit m r h ≤ h := by
  unfold rg_hit
  split
  · split <;> omega
  · exact Nat.le_refl h
theorem rg_rest_le {m : Int32} {q : Nat} (h : q ≤ 9) : rg_rest m q ≤ 9 := by
  unfold rg_rest
  split <;> omega
theorem rg_enc_ok {a b h g p q : Nat} (ha : a ≤ 9) (hb : b ≤ 9) (hh : h ≤ 9) (hg : g ≤ 9) (hp : p ≤ 9) (hq : q ≤ 9) : rg_enc a b h g p q < 1000000 ∧ rg_enc a b h g p q / 100 % 10 = h ∧ rg_enc a b h g p q / 1000 % 10 = g := by
  unfold rg_enc
  refine ⟨by omega, by omega, by omega⟩
theorem rg_mid_ok {a b h g p q : Nat} (f0 f1 : Int32) (ha : a ≤ 9) (hb : b ≤ 9) (hh : h ≤ 9) (hg : g ≤ 9) (hp : p ≤ 9) (hq : q ≤ 9) : rg_mid a b h g p q f0 f1 < 1000000 ∧ rg_mid a b h g p q f0 f1 / 100 % 10 ≤ h ∧ rg_mid a b h g p q f0 f1 / 1000 % 10 ≤ g := by
  unfold rg_mid rg_fin
  have h1 := rg_hit_le f1 (rg_near (rg_go f0 a b) (rg_go f1 b (rg_go f0 a b))) h
  have h2 := rg_hit_le f0 (rg_near (rg_go f0 a b) (rg_go f1 b (rg_go f0 a b))) g
  have E := rg_enc_ok (rg_go_le (m := f0) (b := b) ha) (rg_go_le (m := f1) (b := rg_go f0 a b) hb) (Nat.le_trans h1 hh) (Nat.le_trans h2 hg) (rg_rest_le (m := f0) hp) (rg_rest_le (m := f1) hq)
  refine ⟨E.1, ?_, ?_⟩
  · rw [E.2.1]
    exact h1
  · rw [E.2.2]
    exact h2
theorem rg_step_ok {n : Nat} (hn : n < 1000000) (m0 m1 : Int32) : rg_step n m0 m1 < 1000000 ∧ rg_step n m0 m1 / 100 % 10 ≤ n / 100 % 10 ∧ rg_step n m0 m1 / 1000 % 10 ≤ n / 1000 % 10 := by
  unfold rg_step
  split
  · exact ⟨hn, Nat.le_refl _, Nat.le_refl _⟩
  · exact rg_mid_ok _ _ (by omega) (by omega) (by omega) (by omega) (by omega) (by omega)
theorem rg_step_ov {n : Nat} (h : rg_ov n) (m0 m1 : Int32) : rg_step n m0 m1 = n := by
  unfold rg_step
  exact if_pos h
/-! the saved fields: the array a3 holds s; each is one frame behind the one before, under the used moves a2 -/
def rg_A (a3 : Nat → Int32) (s : Nat → Nat) : Prop := ∀ j, j ≤ 40 → a3 j = nI (s j) ∧ s j < 1000000
def rg_C (a2 : Nat → Int32) (s : Nat → Nat) : Prop := ∀ j, j < 40 → s (j + 1) = rg_step (s j) (a2 j) (a2 (40 + j))
theorem rg_C_ov {a2 : Nat → Int32} {s : Nat → Nat} (h : rg_C a2 s) {i : Nat} (hi : rg_ov (s i)) : ∀ d, i + d ≤ 40 → s (i + d) = s i := by
  intro d
  induction d with
  | zero => intro _; rfl
  | succ d ih =>
    intro hd
    have e := ih (by omega)
    have e2 := h (i + d) (by omega)
    rw [e, rg_step_ov hi] at e2
    exact e2
theorem rg_C_stay {a2 : Nat → Int32} {s : Nat → Nat} (h : rg_C a2 s) {i j : Nat} (hi : rg_ov (s i)) (hij : i ≤ j) (hj : j ≤ 40) : s j = s i := by
  have e := rg_C_ov h hi (j - i) (by omega)
  rw [show i + (j - i) = j by omega] at e
  exact e
/-- the first frame that is missing for player p -/
def rg_fm (a1 : Nat → Int32) (p t : Nat) : Prop := t ≤ 40 ∧ (∀ j, j < t → ¬ a1 (p * 40 + j) = 0) ∧ (t < 40 → a1 (p * 40 + t) = 0)
theorem rg_fm_ex (a1 : Nat → Int32) (p : Nat) : ∃ t, rg_fm a1 p t := by
  obtain ⟨k, hk, hl⟩ := pk_least (fun k => 40 ≤ k ∨ a1 (p * 40 + k) = 0) ⟨40, Or.inl (Nat.le_refl 40)⟩
  have h40 : k ≤ 40 := by
    rcases Nat.lt_or_ge 40 k with z | z
    · exact absurd (Or.inl (Nat.le_refl 40)) (hl 40 z)
    · exact z
  refine ⟨k, h40, fun j hj e => hl j hj (Or.inr e), fun h => ?_⟩
  rcases hk with z | z
  · omega
  · exact z
/-- an arrival moves the first missing frame up, never down, and lies at or behind it -/
theorem rg_fm_le {a1 : Nat → Int32} {p t t' k : Nat} {x : Int32} (h : rg_fm a1 p t) (h' : rg_fm (upd a1 k x) p t') (hx : ¬ x = 0) : t ≤ t' := by
  rcases Nat.lt_or_ge t' t with z | z
  · have e := h'.2.2 (by have := h.1; omega)
    have e2 := h.2.1 t' z
    by_cases ek : p * 40 + t' = k
    · rw [ek, pk_us] at e
      exact absurd e hx
    · rw [pk_un ek] at e
      exact absurd e e2
  · exact z
theorem rg_fm_at {a1 : Nat → Int32} {p t f : Nat} (h : rg_fm a1 p t) (hf : a1 (p * 40 + f) = 0) : t ≤ f := by
  rcases Nat.lt_or_ge f t with z | z
  · exact absurd hf (h.2.1 f z)
  · exact z
end
section
/-! one frame, walked -/
section
variable {pc : Int32} {a1 a2 a3 a4 a5 a6 : Nat → Int32}
theorem rg_nb : ∀ n, n < 10 → (nI n).toInt8.toInt32 = nI n := by decide +kernel
theorem rg_nb9 {n : Nat} (h : n ≤ 9) : (nI n).toInt8.toInt32 = nI n := rg_nb n (by omega)
theorem rg_rem {n : Nat} (h : n < 1000000) : nI n - nI n / 10 * 10 = nI (n % 10) := pk_rem (d := 10) (by omega) (by decide) (by decide)
theorem rg_d10 {n : Nat} (h : n < 1000000) : nI n / 10 = nI (n / 10) := pk_div (d := 10) (by omega) (by decide) (by decide)
theorem rg_d100 {n : Nat} (h : n < 1000000) : nI n / 100 = nI (n / 100) := pk_div (d := 100) (by omega) (by decide) (by decide)
theorem rg_d1000 {n : Nat} (h : n < 1000000) : nI n / 1000 = nI (n / 1000) := pk_div (d := 1000) (by omega) (by decide) (by decide)
theorem rg_d10000 {n : Nat} (h : n < 1000000) : nI n / 10000 = nI (n / 10000) := pk_div (d := 10000) (by omega) (by decide) (by decide)
theorem rg_d100000 {n : Nat} (h : n < 1000000) : nI n / 100000 = nI (n / 100000) := pk_div (d := 100000) (by omega) (by decide) (by decide)
theorem rg_g10 {n : Nat} (h : n < 1000000) : nI n / 10 - nI n / 10 / 10 * 10 = nI (n / 10 % 10) := by
  rw [rg_d10 h]
  exact rg_rem (by omega)
theorem rg_g100 {n : Nat} (h : n < 1000000) : nI n / 100 - nI n / 100 / 10 * 10 = nI (n / 100 % 10) := by
  rw [rg_d100 h]
  exact rg_rem (by omega)
theorem rg_g1000 {n : Nat} (h : n < 1000000) : nI n / 1000 - nI n / 1000 / 10 * 10 = nI (n / 1000 % 10) := by
  rw [rg_d1000 h]
  exact rg_rem (by omega)
theorem rg_g10000 {n : Nat} (h : n < 1000000) : nI n / 10000 - nI n / 10000 / 10 * 10 = nI (n / 10000 % 10) := by
  rw [rg_d10000 h]
  exact rg_rem (by omega)
/-- the field at hand -/
def rg_D (a4 a5 a6 : Nat → Int32) (a b h g p q : Nat) : Prop := (a4 0 = nI a ∧ a4 1 = nI b) ∧ (a5 0 = nI h ∧ a5 1 = nI g) ∧ (a6 0 = nI p ∧ a6 1 = nI q) ∧ (a ≤ 9 ∧ b ≤ 9) ∧ (h ≤ 9 ∧ g ≤ 9) ∧ p ≤ 9 ∧ q ≤ 9
theorem rg_load {post : St1 → Prop} {n : Nat} (hn : n < 1000000) (H : ∀ b4 b5 b6 : Nat → Int32, rg_D b4 b5 b6 (n % 10) (n / 10 % 10) (n / 100 % 10) (n / 1000 % 10) (n / 10000 % 10) (n / 100000) → post (pc, a1, a2, a3, b4, b5, b6)) : wpX_load post (pc, a1, a2, a3, a4, a5, a6) (nI n) := by
  refine ⟨by decide, fun b1 e1 => ⟨by decide, by decide, fun b2 e2 => ⟨by decide, by decide, fun b3 e3 => ⟨by decide, by decide, fun b4 e4 => ⟨by decide, by decide, fun b5 e5 => ⟨by decide, fun b6 e6 => ?_⟩⟩⟩⟩⟩⟩
  rw [rg_rem hn, rg_nb9 (by omega)] at e1
  rw [rg_g10 hn, rg_nb9 (by omega)] at e2
  rw [rg_g100 hn, rg_nb9 (by omega)] at e3
  rw [rg_g1000 hn, rg_nb9 (by omega)] at e4
  rw [rg_g10000 hn, rg_nb9 (by omega)] at e5
  rw [rg_d100000 hn, rg_nb9 (by omega)] at e6
  refine H b2 b4 b6 ⟨⟨?_, ?_⟩, ⟨?_, ?_⟩, ⟨?_, ?_⟩, ⟨by omega, by omega⟩, ⟨by omega, by omega⟩, by omega, by omega⟩
  · rw [e2, pk_un (by decide), e1, pk_us]
  · rw [e2, pk_us]
  · rw [e4, pk_un (by decide), e3, pk_us]
  · rw [e4, pk_us]
  · rw [e6, pk_un (by decide), e5, pk_us]
  · rw [e6, pk_us]
theorem rg_isOver {post : Int32 → Prop} {n : Nat} (hn : n < 1000000) (H1 : rg_ov n → post 1) (H0 : ¬ rg_ov n → post 0) : wpX_isOver post () (nI n) := by
  refine ⟨by decide, by decide, pk_eq (n / 100 % 10) 0 (fun h => H1 (Or.inl h)) (fun h => ⟨by decide, by decide, pk_eq (n / 1000 % 10) 0 (fun h' => H1 (Or.inr h')) (fun h' => H0 (fun z => ?_)) (rg_g1000 hn)⟩) (rg_g100 hn)⟩
  rcases z with z | z
  · exact h z
  · exact h' z
/-! go -/
theorem rg_w36 {post : St1 → Prop} {P m : Int32} {i j x y t : Nat} (hi : P.toNatClampNeg = i) (hj : (1 - P).toNatClampNeg = j) (hij : i ≠ j) (vi : vp_in P 2) (vj : vp_in (1 - P) 2) (hx : a4 i = nI x) (hy : a4 j = nI y) (bt : t ≤ 9) (by9 : y ≤ 9) (ht : rg_to m x = t)
    (H : ∀ b4 : Nat → Int32, b4 i = nI (rg_go m x y) → b4 j = nI y → post (pc, a1, a2, a3, b4, a5, a6)) : wX_go_36 post P (nI t) pc a1 a2 a3 a4 a5 a6 := by
  unfold wX_go_36
  rw [hj, hi, hy]
  refine ⟨vj, pk_eq t y (fun e => H a4 ?_ hy) (fun e => ⟨vi, fun b eb => H b ?_ ?_⟩)⟩
  · unfold rg_go
    rw [if_pos (ht.trans e)]
    exact hx
  · unfold rg_go
    rw [ht, if_neg e, eb, pk_us, rg_nb9 bt]
  · rw [eb, pk_un (Ne.symm hij), hy]
theorem rg_wgo {post : St1 → Prop} {P m : Int32} {i j x y : Nat} (hi : P.toNatClampNeg = i) (hj : (1 - P).toNatClampNeg = j) (hij : i ≠ j) (vi : vp_in P 2) (vj : vp_in (1 - P) 2) (hx : a4 i = nI x) (hy : a4 j = nI y) (bx : x ≤ 9) (by9 : y ≤ 9)
    (H : ∀ b4 : Nat → Int32, b4 i = nI (rg_go m x y) → b4 j = nI y → post (pc, a1, a2, a3, b4, a5, a6)) : wpX_go post (pc, a1, a2, a3, a4, a5, a6) P m := by
  have h36 : ∀ t, t ≤ 9 → rg_to m x = t → wX_go_36 post P (nI t) pc a1 a2 a3 a4 a5 a6 := fun t bt ht => rg_w36 hi hj hij vi vj hx hy bt by9 ht H
  have h22 : ¬ (m = 1 ∧ 0 < x) → wX_go_22 post P m (nI x) pc a1 a2 a3 a4 a5 a6 := by
    intro hn
    refine br_c (fun e2 => pk_le 9 x (fun h => h36 x bx ?_) (fun h => nm_r (nI_1 x) (h36 (x + 1) (by omega) ?_))) (fun e2 => h36 x bx ?_)
    · unfold rg_to
      rw [if_neg (by rw [e2]; decide), if_pos e2, if_neg (by omega)]
    · unfold rg_to
      rw [if_neg (by rw [e2]; decide), if_pos e2, if_pos (by omega)]
    · unfold rg_to
      by_cases e1 : m = 1
      · have : ¬ 0 < x := fun z => hn ⟨e1, z⟩
        rw [if_pos e1]
        omega
      · rw [if_neg e1, if_neg e2]
  refine ⟨vi, nm_r (e' := nI x) (by rw [hi, hx]) ?_⟩
  refine br_c (fun e1 => pk_le x 0 (fun h => h22 (fun z => by omega)) (fun h => nm_r (e' := nI (x - 1)) (sb_m1 h) (h36 (x - 1) (by omega) ?_))) (fun e1 => h22 (fun z => e1 z.1))
  unfold rg_to
  rw [if_pos e1]
/-! strike: player P strikes; the other's points h, its own g; its own pause q, the other's r -/
theorem rg_wstrike {post : St1 → Prop} {P m nr : Int32} {i j h g q r : Nat} {near : Bool} (hi : P.toNatClampNeg = i) (hj : (1 - P).toNatClampNeg = j) (hij : i ≠ j) (vi : vp_in P 2) (vj : vp_in (1 - P) 2) (hn : nr = 0 ↔ near = false)
    (hh : a5 j = nI h) (hg : a5 i = nI g) (hq : a6 i = nI q) (hr : a6 j = nI r) (bh : h ≤ 9)
    (H : ∀ b5 b6 : Nat → Int32, b5 j = nI (rg_hit m near h) → b5 i = nI g → b6 i = nI (rg_rest m q) → b6 j = nI r → post (pc, a1, a2, a3, a4, b5, b6)) : wpX_strike post (pc, a1, a2, a3, a4, a5, a6) P m nr := by
  refine br_c (fun e => ⟨vi, fun c6 e6 => ?_⟩) (fun e => H a5 a6 ?_ hg ?_ hr)
  · rw [hi] at e6
    have r1 : c6 i = nI (rg_rest m q) := by
      unfold rg_rest
      rw [if_pos e, e6, pk_us]
      rfl
    have r2 : c6 j = nI r := by rw [e6, pk_un (Ne.symm hij), hr]
    have keep : rg_hit m near h = h → wX_strike_47 post P (1 - P) pc a1 a2 a3 a4 a5 c6 := by
      intro ek
      refine ⟨vj, vj, fun b eb => H b c6 ?_ ?_ r1 r2⟩
      · rw [ek, eb, hj, pk_us, hh, rg_nb9 bh]
      · rw [eb, hj, pk_un hij, hg]
    refine br_c (fun z => keep ?_) (fun z => ⟨vj, ?_⟩)
    · unfold rg_hit
      rw [if_pos e, hn.mp z]
      rfl
    have nt : near = true := by
      cases hb : near with
      | false => exact absurd (hn.mpr hb) z
      | true => rfl
    refine pk_le h 0 (fun z' => keep ?_) (fun z' => ⟨vj, vj, fun b eb => H b c6 ?_ ?_ r1 r2⟩) (by rw [hj, hh])
    · unfold rg_hit
      rw [if_pos e, if_pos nt]
      omega
    · unfold rg_hit
      rw [if_pos e, if_pos nt, eb, hj, pk_us, hh, show nI h - 1 = nI (h - 1) from pk_sub (b := 1) z', rg_nb9 (by omega)]
    · rw [eb, hj, pk_un hij, hg]
  · unfold rg_hit
    rw [if_neg e]
    exact hh
  · unfold rg_rest
    rw [if_neg e]
    exact hq
theorem rg_c0 : (0 : Int32).toNatClampNeg = 0 := by decide
theorem rg_c1 : (1 : Int32).toNatClampNeg = 1 := by decide
theorem rg_c10 : (1 - 0 : Int32).toNatClampNeg = 1 := by decide
theorem rg_c11 : (1 - 1 : Int32).toNatClampNeg = 0 := by decide
theorem rg_v0 : vp_in 0 2 := vp_in_iff.mpr (by decide)
theorem rg_v1 : vp_in 1 2 := vp_in_iff.mpr (by decide)
theorem rg_v10 : vp_in (1 - 0) 2 := vp_in_iff.mpr (by decide)
theorem rg_v11 : vp_in (1 - 1) 2 := vp_in_iff.mpr (by decide)
theorem rg_pack {post : Int32 → Prop} {a b h g p q : Nat} (d4 : a4 0 = nI a ∧ a4 1 = nI b) (d5 : a5 0 = nI h ∧ a5 1 = nI g) (d6 : a6 0 = nI p ∧ a6 1 = nI q) (H : post (nI (rg_enc a b h g p q))) : wpX_pack post (pc, a1, a2, a3, a4, a5, a6) := by
  show post (((((a4 0 + 10 * a4 1) + 100 * a5 0) + 1000 * a5 1) + 10000 * a6 0) + 100000 * a6 1)
  rw [d4.1, d4.2, d5.1, d5.2, d6.1, d6.2, show (10 : Int32) * nI b = nI (10 * b) from pk_mul 10 b, show (100 : Int32) * nI h = nI (100 * h) from pk_mul 100 h, show (1000 : Int32) * nI g = nI (1000 * g) from pk_mul 1000 g, show (10000 : Int32) * nI p = nI (10000 * p) from pk_mul 10000 p, show (100000 : Int32) * nI q = nI (100000 * q) from pk_mul 100000 q, nI_add, nI_add, nI_add, nI_add, nI_add]
  exact H
theorem rg_s148 {post : Int32 → St1 → Prop} {f0 f1 nr : Int32} {a b h g p q : Nat} (d : rg_D a4 a5 a6 a b h g p q) (hn : nr = 0 ↔ rg_near a b = false) (H : ∀ b4 b5 b6 : Nat → Int32, post (nI (rg_fin a b h g p q f0 f1)) (pc, a1, a2, a3, b4, b5, b6)) : wX_step_148 post f0 f1 nr pc a1 a2 a3 a4 a5 a6 := by
  obtain ⟨d4, d5, d6, _, dh, _⟩ := d
  unfold wX_step_148
  refine rg_wstrike rg_c0 rg_c10 (by decide) rg_v0 rg_v10 hn d5.2 d5.1 d6.1 d6.2 dh.2 (fun b5 b6 x1 x2 x3 x4 => ?_)
  refine rg_wstrike rg_c1 rg_c11 (by decide) rg_v1 rg_v11 hn x2 x1 x4 x3 dh.1 (fun c5 c6 y1 y2 y3 y4 => ?_)
  exact rg_pack d4 ⟨y1, y2⟩ ⟨y4, y3⟩ (H a4 c5 c6)
theorem rg_lt_m1 {a b : Nat} (ha : a ≤ 9) (hb : b ≤ 9) : nI a - nI b < -1 ↔ a + 1 < b := by
  have e : (nI a - nI b).toInt = (a : Int) - b := pk_sub_toInt (by omega) (by omega)
  have m : (-1 : Int32).toInt = -1 := by decide
  rw [Int32.lt_iff_toInt_lt, e, m]
  omega
theorem rg_gt_1 {a b : Nat} (ha : a ≤ 9) (hb : b ≤ 9) : 1 < nI a - nI b ↔ b + 1 < a := by
  have e : (nI a - nI b).toInt = (a : Int) - b := pk_sub_toInt (by omega) (by omega)
  have m : (1 : Int32).toInt = 1 := by decide
  rw [Int32.lt_iff_toInt_lt, e, m]
  omega
theorem rg_s100 {post : Int32 → St1 → Prop} {f0 f1 z0 : Int32} {a b h g p q z : Nat} (d : rg_D a4 a5 a6 a b h g p q) (hz : z0 = nI z) (bz : z ≤ 9) (H : ∀ b4 b5 b6 : Nat → Int32, post (nI (rg_mid a b h g p z f0 f1)) (pc, a1, a2, a3, b4, b5, b6)) : wX_step_100 post f0 f1 z0 1 pc a1 a2 a3 a4 a5 a6 := by
  obtain ⟨d4, d5, d6, da, dh, dp, _⟩ := d
  unfold wX_step_100
  refine ⟨rg_v1, fun c6 e6 => ?_⟩
  rw [hz, rg_c1, rg_nb9 bz] at e6
  have x0 : c6 0 = nI p := by rw [e6, pk_un (by decide), d6.1]
  have x1 : c6 1 = nI z := by rw [e6, pk_us]
  refine rg_wgo rg_c0 rg_c10 (by decide) rg_v0 rg_v10 d4.1 d4.2 da.1 da.2 (fun b4 y0 y1 => ?_)
  refine rg_wgo rg_c1 rg_c11 (by decide) rg_v1 rg_v11 y1 y0 da.2 (rg_go_le da.1) (fun c4 w1 w0 => ?_)
  have ba := rg_go_le (m := f0) (b := b) da.1
  have bb := rg_go_le (m := f1) (b := rg_go f0 a b) da.2
  have D : rg_D c4 a5 c6 (rg_go f0 a b) (rg_go f1 b (rg_go f0 a b)) h g p z := ⟨⟨w0, w1⟩, d5, ⟨x0, x1⟩, ⟨ba, bb⟩, dh, dp, bz⟩
  refine nm_r (e' := nI (rg_go f0 a b) - nI (rg_go f1 b (rg_go f0 a b))) (by rw [w0, w1]) ?_
  refine ek_if (rg_lt_m1 ba bb) (fun t => ?_) (fun t => ek_if (rg_gt_1 ba bb) (fun t' => ?_) (fun t' => ?_))
  · refine rg_s148 D ⟨fun _ => ?_, fun _ => rfl⟩ H
    unfold rg_near
    rw [show decide (rg_go f1 b (rg_go f0 a b) ≤ rg_go f0 a b + 1) = false from decide_eq_false (by omega), Bool.and_false]
  · refine rg_s148 D ⟨fun _ => ?_, fun _ => rfl⟩ H
    unfold rg_near
    rw [show decide (rg_go f0 a b ≤ rg_go f1 b (rg_go f0 a b) + 1) = false from decide_eq_false (by omega), Bool.false_and]
  · refine rg_s148 D ⟨fun z => absurd z (by decide), fun z => ?_⟩ H
    unfold rg_near at z
    rw [show decide (rg_go f0 a b ≤ rg_go f1 b (rg_go f0 a b) + 1) = true from decide_eq_true (by omega), show decide (rg_go f1 b (rg_go f0 a b) ≤ rg_go f0 a b + 1) = true from decide_eq_true (by omega)] at z
    exact absurd z (by decide)
theorem rg_s72 {post : Int32 → St1 → Prop} {f0 f1 z0 : Int32} {a b h g p q z : Nat} (d : rg_D a4 a5 a6 a b h g p q) (hz : z0 = nI z) (bz : z ≤ 9) (H : ∀ b4 b5 b6 : Nat → Int32, post (nI (rg_mid a b h g z (q - 1) f0 f1)) (pc, a1, a2, a3, b4, b5, b6)) : wX_step_72 post f0 f1 z0 0 pc a1 a2 a3 a4 a5 a6 := by
  obtain ⟨d4, d5, d6, da, dh, dp, dq⟩ := d
  unfold wX_step_72
  refine ⟨rg_v0, fun c6 e6 => ?_⟩
  rw [hz, rg_c0, rg_nb9 bz] at e6
  have x0 : c6 0 = nI z := by rw [e6, pk_us]
  have x1 : c6 1 = nI q := by rw [e6, pk_un (by decide), d6.2]
  have D : rg_D a4 a5 c6 a b h g z q := ⟨d4, d5, ⟨x0, x1⟩, da, dh, bz, dq⟩
  refine pk_le q 0 (fun t => rg_s100 D (z := q - 1) ?_ (by omega) H) (fun t => rg_s100 D (z := q - 1) ?_ (by omega) H) x1
  · rw [show q - 1 = 0 by omega]
    rfl
  · rw [x1]
    exact pk_sub (b := 1) t
theorem rg_s44 {post : Int32 → St1 → Prop} {f0 f1 : Int32} {a b h g p q : Nat} (d : rg_D a4 a5 a6 a b h g p q) (H : ∀ b4 b5 b6 : Nat → Int32, post (nI (rg_mid a b h g (p - 1) (q - 1) f0 f1)) (pc, a1, a2, a3, b4, b5, b6)) : wX_step_44 post f0 f1 pc a1 a2 a3 a4 a5 a6 := by
  have d6 := d.2.2.1
  have dp := d.2.2.2.2.2.1
  unfold wX_step_44
  refine pk_le p 0 (fun t => rg_s72 d (z := p - 1) ?_ (by omega) H) (fun t => rg_s72 d (z := p - 1) ?_ (by omega) H) d6.1
  · rw [show p - 1 = 0 by omega]
    rfl
  · rw [d6.1]
    exact pk_sub (b := 1) t
theorem rg_s28 {post : Int32 → St1 → Prop} {f0 m1 : Int32} {a b h g p q : Nat} (d : rg_D a4 a5 a6 a b h g p q) (H : ∀ b4 b5 b6 : Nat → Int32, post (nI (rg_mid a b h g (p - 1) (q - 1) f0 (rg_mv q m1))) (pc, a1, a2, a3, b4, b5, b6)) : wX_step_28 post m1 f0 pc a1 a2 a3 a4 a5 a6 := by
  have d6 := d.2.2.1
  have dq := d.2.2.2.2.2.2
  unfold wX_step_28
  refine pk_le q 0 (fun t => rg_s44 d ?_) (fun t => rg_s44 d ?_) d6.2
  · have e : rg_mv q m1 = m1 := if_pos (by omega)
    rw [e] at H
    exact H
  · have e : rg_mv q m1 = -1 := if_neg (by omega)
    rw [e] at H
    exact H
/-- one frame, whole: the answer is the picture's, and no more than the field at hand is touched -/
theorem rg_wstep {post : Int32 → St1 → Prop} {n : Nat} {m0 m1 : Int32} (hn : n < 1000000) (H : ∀ b4 b5 b6 : Nat → Int32, post (nI (rg_step n m0 m1)) (pc, a1, a2, a3, b4, b5, b6)) : wpX_step post (pc, a1, a2, a3, a4, a5, a6) (nI n) m0 m1 := by
  unfold wpX_step
  refine rg_isOver hn (fun o => br_f (by decide) ?_) (fun o => br_t rfl (rg_load hn (fun b4 b5 b6 d => ?_)))
  · have e := H a4 a5 a6
    rw [rg_step_ov o] at e
    exact e
  · have e : rg_step n m0 m1 = rg_mid (n % 10) (n / 10 % 10) (n / 100 % 10) (n / 1000 % 10) (n / 10000 % 10 - 1) (n / 100000 - 1) (rg_mv (n / 10000 % 10) m0) (rg_mv (n / 100000) m1) := if_neg o
    rw [e] at H
    refine pk_le (n / 10000 % 10) 0 (fun t => rg_s28 d ?_) (fun t => rg_s28 d ?_) d.2.2.1.1
    · have e0 : rg_mv (n / 10000 % 10) m0 = m0 := if_pos (by omega)
      rw [e0] at H
      exact H
    · have e0 : rg_mv (n / 10000 % 10) m0 = -1 := if_neg (by omega)
      rw [e0] at H
      exact H
end
end
section
/-! replay: from frame fr on, s0 the saved fields before -/
section
variable {pc : Int32} {a1 a2 a3 a4 a5 a6 : Nat → Int32}
/-- the loop's picture at frame f: x3 the count, x4 whether the last field differed -/
def rg_RI (a2 : Nat → Int32) (s0 : Nat → Nat) (fr n f : Nat) (x3 x4 : Int32) (a3 : Nat → Int32) : Prop :=
  ∃ (s : Nat → Nat) (c : Nat), rg_A a3 s ∧ (∀ j, j ≤ fr → s j = s0 j) ∧ (∀ j, f < j → s j = s0 j) ∧ (∀ j, j < f → s (j + 1) = rg_step (s j) (a2 j) (a2 (40 + j))) ∧ x3 = nI c ∧ (c ≤ f ∧ c ≤ n) ∧ (∀ j, j ≤ n → j ≤ f → s j ≠ s0 j → 0 < c) ∧ (x4 = 0 → s f = s0 f)
/-- what replay leaves -/
def rg_RO (a2 : Nat → Int32) (s0 : Nat → Nat) (fr n c : Nat) (s : Nat → Nat) (a3 : Nat → Int32) : Prop :=
  rg_A a3 s ∧ (∀ j, j ≤ fr → s j = s0 j) ∧ rg_C a2 s ∧ c ≤ n ∧ (∀ j, j ≤ n → j ≤ 40 → s j ≠ s0 j → 0 < c)
def rg_put (s : Nat → Nat) (k v : Nat) : Nat → Nat := fun j => if j = k then v else s j
theorem rg_put_s {s : Nat → Nat} {k v : Nat} : rg_put s k v k = v := if_pos rfl
theorem rg_put_n {s : Nat → Nat} {k v j : Nat} (h : j ≠ k) : rg_put s k v j = s j := if_neg h
theorem rg_A_put {a3 : Nat → Int32} {s : Nat → Nat} {k v : Nat} (h : rg_A a3 s) (hv : v < 1000000) : rg_A (upd a3 k (nI v)) (rg_put s k v) := by
  intro j hj
  by_cases e : j = k
  · rw [e, pk_us, rg_put_s]
    exact ⟨rfl, hv⟩
  · rw [pk_un e, rg_put_n e]
    exact h j hj
/-- one turn of the picture: the new count c' is one more where a played field changed -/
theorem rg_RI_next {a2 a3 : Nat → Int32} {s0 s : Nat → Nat} {fr n f c c' : Nat} {x4 : Int32} (hf : f < 40) (hfr : fr ≤ f) (hA : rg_A a3 s) (h1 : ∀ j, j ≤ fr → s j = s0 j) (h2 : ∀ j, f < j → s j = s0 j) (h3 : ∀ j, j < f → s (j + 1) = rg_step (s j) (a2 j) (a2 (40 + j))) (h4 : c ≤ f ∧ c ≤ n) (h5 : ∀ j, j ≤ n → j ≤ f → s j ≠ s0 j → 0 < c)
    (hc : (c' = c ∧ (rg_step (s f) (a2 f) (a2 (40 + f)) = s (f + 1) ∨ n < f + 1)) ∨ (c' = c + 1 ∧ f + 1 ≤ n)) (hx : x4 = 0 → rg_step (s f) (a2 f) (a2 (40 + f)) = s (f + 1)) :
    rg_RI a2 s0 fr n (f + 1) (nI c') x4 (upd a3 (f + 1) (nI (rg_step (s f) (a2 f) (a2 (40 + f))))) := by
  have hv := (rg_step_ok (hA f (by omega)).2 (a2 f) (a2 (40 + f))).1
  refine ⟨rg_put s (f + 1) (rg_step (s f) (a2 f) (a2 (40 + f))), c', rg_A_put hA hv, fun j hj => ?_, fun j hj => ?_, fun j hj => ?_, rfl, ?_, fun j hn hj hd => ?_, fun z => ?_⟩
  · rw [rg_put_n (by omega)]
    exact h1 j hj
  · rw [rg_put_n (by omega)]
    exact h2 j (by omega)
  · by_cases e : j = f
    · rw [e, rg_put_s, rg_put_n (by omega)]
    · rw [rg_put_n (by omega), rg_put_n (by omega)]
      exact h3 j (by omega)
  · rcases hc with ⟨e, _⟩ | ⟨e, g⟩
    · omega
    · omega
  · by_cases e : j = f + 1
    · rw [e, rg_put_s] at hd
      rcases hc with ⟨_, g | g⟩ | ⟨g, _⟩
      · rw [g] at hd
        exact absurd (h2 (f + 1) (by omega)) hd
      · omega
      · omega
    · rw [rg_put_n e] at hd
      have := h5 j hn (by omega) hd
      rcases hc with ⟨g, _⟩ | ⟨g, _⟩ <;> omega
  · rw [rg_put_s, hx z]
    exact h2 (f + 1) (by omega)
/-- the end: every frame was played again, or the field is the old one from here on -/
theorem rg_RI_end {a2 a3 : Nat → Int32} {s0 : Nat → Nat} {fr n f ut : Nat} {x3 x4 : Int32} (hf : f ≤ 40) (h0 : ∀ j, ut ≤ j → j < 40 → s0 (j + 1) = rg_step (s0 j) (a2 j) (a2 (40 + j))) (h : rg_RI a2 s0 fr n f x3 x4 a3) (he : f = 40 ∨ (ut ≤ f ∧ x4 = 0)) : ∃ c s, x3 = nI c ∧ rg_RO a2 s0 fr n c s a3 := by
  obtain ⟨s, c, hA, h1, h2, h3, hx, h4, h5, h6⟩ := h
  refine ⟨c, s, hx, hA, h1, fun j hj => ?_, h4.2, fun j hn hj hd => ?_⟩
  · rcases Nat.lt_or_ge j f with z | z
    · exact h3 j z
    · rcases he with g | ⟨g, gx⟩
      · omega
      · have e1 : s j = s0 j := by
          by_cases e : j = f
          · rw [e]
            exact h6 gx
          · exact h2 j (by omega)
        rw [e1, h2 (j + 1) (by omega)]
        exact h0 j (by omega) hj
  · rcases Nat.lt_or_ge f j with z | z
    · exact absurd (h2 j z) hd
    · exact h5 j hn z hd
theorem rg_r99 {post : Int32 → St1 → Prop} {J : Int32 → Int32 → Int32 → Int32 → (Nat → Int32) → (Nat → Int32) → (Nat → Int32) → (Nat → Int32) → (Nat → Int32) → (Nat → Int32) → Prop} {x2 x4 x6 z0 z1 : Int32} {f : Nat} (hf : f < 40) (H : J (z1 + z0) x4 (nI (f + 1)) pc a1 a2 (upd a3 (f + 1) x6) a4 a5 a6) : wX_replay_99 post J x2 x4 (nI f) x6 z0 z1 pc a1 a2 a3 a4 a5 a6 := by
  unfold wX_replay_99
  rw [nI_1, nI_clamp (show f + 1 < 2 ^ 31 by omega)]
  exact nm_e ⟨vp_in_nI (by omega) (by omega), nm_e (nm_e H)⟩
theorem rg_r26 {post : Int32 → St1 → Prop} {J : Int32 → Int32 → Int32 → Int32 → (Nat → Int32) → (Nat → Int32) → (Nat → Int32) → (Nat → Int32) → (Nat → Int32) → (Nat → Int32) → Prop} {x2 x3 x4 : Int32} {s0 : Nat → Nat} {fr n f : Nat} (hn : n ≤ 40) (hpc : pc = nI n) (hf : f < 40) (hfr : fr ≤ f) (h : rg_RI a2 s0 fr n f x3 x4 a3)
    (H : ∀ (y3 y4 : Int32) (b3 b4 b5 b6 : Nat → Int32), rg_RI a2 s0 fr n (f + 1) y3 y4 b3 → J y3 y4 (nI (f + 1)) pc a1 a2 b3 b4 b5 b6) : wX_replay_26 post J x2 x3 (nI f) pc a1 a2 a3 a4 a5 a6 := by
  obtain ⟨s, c, hA, h1, h2, h3, hx, h4, h5, h6⟩ := h
  have e40 : (40 : Int32) + nI f = nI (40 + f) := nI_add 40 f
  unfold wX_replay_26
  rw [e40, nI_clamp (show f < 2 ^ 31 by omega), nI_clamp (show 40 + f < 2 ^ 31 by omega), (hA f (by omega)).1, nI_1, nI_clamp (show f + 1 < 2 ^ 31 by omega)]
  refine ⟨vp_in_nI (by omega) (by omega), vp_in_nI (by omega) (by omega), vp_in_nI (by omega) (by omega), rg_wstep (hA f (by omega)).2 (fun b4 b5 b6 => ⟨vp_in_nI (by omega) (by omega), ?_⟩)⟩
  have hv := (rg_step_ok (hA f (by omega)).2 (a2 f) (a2 (40 + f))).1
  have hs := (hA (f + 1) (by omega))
  refine pk_eq (rg_step (s f) (a2 f) (a2 (40 + f))) (s (f + 1)) (fun e => ?_) (fun e => ?_) rfl hs.1
  · refine br_t rfl (rg_r99 hf (H _ _ _ _ _ _ ?_))
    rw [hx, Int32.add_zero]
    exact rg_RI_next hf hfr hA h1 h2 h3 h4 h5 (Or.inl ⟨rfl, Or.inl e⟩) (fun _ => e)
  · refine br_f (by decide) ?_
    refine pk_lt n (f + 1) (fun g => ?_) (fun g => ?_) hpc (nI_1 f)
    · refine rg_r99 hf (H _ _ _ _ _ _ ?_)
      rw [hx, Int32.add_zero]
      exact rg_RI_next hf hfr hA h1 h2 h3 h4 h5 (Or.inl ⟨rfl, Or.inr g⟩) (fun z => absurd z (by decide))
    · refine rg_r99 hf (H _ _ _ _ _ _ ?_)
      rw [hx, nI_1]
      exact rg_RI_next hf hfr hA h1 h2 h3 h4 h5 (Or.inr ⟨rfl, g⟩) (fun z => absurd z (by decide))
theorem rg_wreplay {post : Int32 → St1 → Prop} {s0 : Nat → Nat} {fr n ut : Nat} (hn : n ≤ 40) (hpc : pc = nI n) (hfr : fr ≤ 40) (hut : ut ≤ 40) (hlt : fr < ut) (hA : rg_A a3 s0) (hl : ∀ j, j < fr → s0 (j + 1) = rg_step (s0 j) (a2 j) (a2 (40 + j))) (hh : ∀ j, ut ≤ j → j < 40 → s0 (j + 1) = rg_step (s0 j) (a2 j) (a2 (40 + j)))
    (H : ∀ (c : Nat) (s : Nat → Nat) (b3 b4 b5 b6 : Nat → Int32), rg_RO a2 s0 fr n c s b3 → post (nI c) (pc, a1, a2, b3, b4, b5, b6)) : wpX_replay post (pc, a1, a2, a3, a4, a5, a6) (nI fr) (nI ut) := by
  have fin : ∀ (f : Nat) (x3 x4 : Int32) (b3 b4 b5 b6 : Nat → Int32), f ≤ 40 → rg_RI a2 s0 fr n f x3 x4 b3 → (f = 40 ∨ (ut ≤ f ∧ x4 = 0)) → post x3 (pc, a1, a2, b3, b4, b5, b6) := by
    intro f x3 x4 b3 b4 b5 b6 hf h he
    obtain ⟨c, s, e, h'⟩ := rg_RI_end hf hh h he
    rw [e]
    exact H c s b3 b4 b5 b6 h'
  refine pk_loop (fun m i (t : Int32 × Int32 × (Nat → Int32) × (Nat → Int32) × (Nat → Int32) × (Nat → Int32)) => wX_replay_8 post (nI ut) m t.1 t.2.1 (nI i) pc a1 a2 t.2.2.1 t.2.2.2.1 t.2.2.2.2.1 t.2.2.2.2.2) (fun i t => fr ≤ i ∧ rg_RI a2 s0 fr n i t.1 t.2.1 t.2.2.1) 40 fr (0, 1, a3, a4, a5, a6) hfr ⟨Nat.le_refl fr, s0, 0, hA, fun _ _ => rfl, fun _ _ => rfl, hl, rfl, ⟨Nat.zero_le _, Nat.zero_le _⟩, fun j _ _ z => absurd rfl z, fun z => absurd (show (1 : Int32) = 0 from z) (by decide)⟩ ?_ ?_
  · rintro m ⟨x3, x4, b3, b4, b5, b6⟩ ⟨_, h⟩
    exact pk_le 40 40 (fun _ => fin 40 x3 x4 b3 b4 b5 b6 (Nat.le_refl 40) h (Or.inl rfl)) (fun z => absurd z (by omega))
  · rintro m i ⟨x3, x4, b3, b4, b5, b6⟩ hi ⟨hg, h⟩ hw
    have go : wX_replay_26 post (wX_replay_8 post (nI ut) m) (nI ut) x3 (nI i) pc a1 a2 b3 b4 b5 b6 := rg_r26 hn hpc hi hg h (fun y3 y4 c3 c4 c5 c6 h' => hw (y3, y4, c3, c4, c5, c6) ⟨by omega, h'⟩)
    exact pk_le 40 i (fun z => absurd z (by omega)) (fun _ => pk_lt i ut (fun _ => go) (fun z => br_c (fun z4 => fin i x3 x4 b3 b4 b5 b6 (by omega) h (Or.inr ⟨z, z4⟩)) (fun _ => go)))
end
end
section
/-! use and arrive -/
section
variable {pc : Int32} {a1 a2 a3 a4 a5 a6 : Nat → Int32}
theorem rg_ix (p f : Nat) : nI p * 40 + nI f = nI (p * 40 + f) := by
  rw [show nI p * 40 = nI (p * 40) from pk_mul p 40, nI_add]
theorem rg_wguess {post : Int32 → Prop} {p f : Nat} (hp : p ≤ 1) (h0 : 0 < f) (hf : f < 40) (H : ∀ r, post r) : wpX_guess post (pc, a1, a2, a3, a4, a5, a6) (nI p) (nI f) := by
  refine pk_eq f 0 (fun z => absurd z (by omega)) (fun _ => ⟨?_, br_c (fun _ => H _) (fun _ => H _)⟩)
  rw [rg_ix, show nI (p * 40 + f) - 1 = nI (p * 40 + f - 1) from pk_sub (b := 1) (by omega)]
  exact vp_in_nI (by omega) (by omega)
/-- what use leaves: the moves b2 differ from a2 in the cells from frame fr up to t alone, and frame fr holds the move -/
def rg_UI (a2 : Nat → Int32) (p fr : Nat) (M : Int32) (t : Nat) (b2 : Nat → Int32) : Prop := fr ≤ t ∧ (∀ j, ¬ b2 j = a2 j → p * 40 + fr ≤ j ∧ j < p * 40 + t) ∧ b2 (p * 40 + fr) = M
theorem rg_u42 {post : Int32 → St1 → Prop} {p fr t0 : Nat} {M : Int32} {b2 : Nat → Int32} (hp : p ≤ 1) (hf : fr < 40) (ht : t0 ≤ fr + 1) (h : rg_UI a2 p fr M t0 b2) (H : ∀ (t : Nat) (c2 : Nat → Int32), t ≤ 40 → rg_UI a2 p fr M t c2 → post (nI t) (pc, a1, c2, a3, a4, a5, a6)) : ∃ m, wX_use_42 post (nI p) pc m (nI t0) (nI (fr + 1)) a1 b2 a3 a4 a5 a6 := by
  refine pk_loop (fun m i (s : Int32 × (Nat → Int32)) => wX_use_42 post (nI p) pc m s.1 (nI i) a1 s.2 a3 a4 a5 a6) (fun i s => fr + 1 ≤ i ∧ ∃ t, s.1 = nI t ∧ t ≤ i ∧ rg_UI a2 p fr M t s.2) 40 (fr + 1) (nI t0, b2) (by omega) ⟨Nat.le_refl _, t0, rfl, ht, h⟩ ?_ ?_
  · rintro m ⟨x5, c2⟩ ⟨_, t, e, htI, hU⟩
    refine pk_le 40 40 (fun _ => ?_) (fun z => absurd z (by omega))
    show post x5 (pc, a1, c2, a3, a4, a5, a6)
    rw [show x5 = nI t from e]
    exact H t c2 htI hU
  · rintro m i ⟨x5, c2⟩ hi ⟨hg, t, e, htI, hU⟩ hw
    have e' : x5 = nI t := e
    have hU' : rg_UI a2 p fr M t c2 := hU
    have vi : vp_in (nI p * 40 + nI i) 80 := by
      rw [rg_ix]
      exact vp_in_nI (by omega) (by omega)
    have ci : (nI p * 40 + nI i).toNatClampNeg = p * 40 + i := by
      rw [rg_ix]
      exact nI_clamp (by omega)
    refine pk_le 40 i (fun z => absurd z (by omega)) (fun _ => ⟨vi, br_c (fun _ => ?_) (fun _ => ?_)⟩)
    · refine rg_wguess hp (by omega) hi (fun r => ⟨vi, br_c (fun _ => ?_) (fun _ => ⟨vi, fun d2 e2 => ?_⟩)⟩)
      · exact nm_r (nI_1 i) (hw (x5, c2) ⟨by omega, t, e', by omega, hU'⟩)
      · rw [ci] at e2
        refine nm_r (nI_1 i) (nm_r (nI_1 i) (hw (nI (i + 1), d2) ⟨by omega, i + 1, rfl, Nat.le_refl _, by omega, fun j hj => ?_, ?_⟩))
        · have hj' : ¬ d2 j = a2 j := hj
          by_cases ej : j = p * 40 + i
          · omega
          · rw [e2, pk_un ej] at hj'
            have := hU'.2.1 j hj'
            omega
        · show d2 (p * 40 + fr) = M
          rw [e2, pk_un (by omega)]
          exact hU'.2.2
    · show post x5 (pc, a1, c2, a3, a4, a5, a6)
      rw [e']
      exact H t c2 (by omega) hU'
theorem rg_wuse {post : Int32 → St1 → Prop} {p fr mv : Nat} (hp : p ≤ 1) (hf : fr < 40) (hm : mv ≤ 3) (H : ∀ (t : Nat) (c2 : Nat → Int32), t ≤ 40 → rg_UI a2 p fr (nI mv) t c2 → post (nI t) (pc, a1, c2, a3, a4, a5, a6)) : wpX_use post (pc, a1, a2, a3, a4, a5, a6) (nI p) (nI fr) (nI mv) := by
  have c26 : ∀ t0, t0 ≤ fr + 1 → fr ≤ t0 → (t0 = fr → a2 (p * 40 + fr) = nI mv) → wX_use_26 post (nI p) (nI fr) (nI mv) (nI (p * 40 + fr)) (nI t0) pc a1 a2 a3 a4 a5 a6 := by
    intro t0 h1 h2 h3
    refine ⟨vp_in_nI (by omega) (by omega), fun d2 e2 => nm_r (nI_1 fr) (rg_u42 hp hf h1 ⟨h2, fun j hj => ?_, ?_⟩ H)⟩
    · rw [nI_clamp (by omega), rg_nb9 (by omega)] at e2
      by_cases ej : j = p * 40 + fr
      · by_cases e0 : t0 = fr
        · rw [e2, ej, pk_us, h3 e0] at hj
          exact absurd rfl hj
        · omega
      · rw [e2, pk_un ej] at hj
        exact absurd rfl hj
    · rw [e2, nI_clamp (by omega), pk_us, rg_nb9 (by omega)]
  refine nm_r (rg_ix p fr) ⟨vp_in_nI (by omega) (by omega), br_c (fun e => ?_) (fun e => ?_)⟩
  · rw [nI_clamp (by omega)] at e
    exact c26 fr (by omega) (Nat.le_refl fr) (fun _ => e)
  · rw [nI_1]
    exact c26 (fr + 1) (Nat.le_refl _) (by omega) (fun z => absurd z (by omega))
theorem rg_wpl {post : Int32 → Prop} {p : Nat} (hp : p ≤ 1) (H : post 1) : wpX_isPlayer post () (nI p) :=
  pk_eq p 0 (fun _ => H) (fun _ => pk_eq p 1 (fun _ => H) (fun _ => absurd hp (by omega)))
theorem rg_wfr {post : Int32 → Prop} {f : Nat} (hf : f < 2 ^ 31) (H1 : f < 40 → post 1) (H0 : 40 ≤ f → post 0) : wpX_isFrame post () (nI f) :=
  br_f (nI_pos hf) (pk_le 40 f (fun h => H0 h) (fun h => H1 h))
theorem rg_UI_cell {p fr t j : Nat} {M : Int32} {b2 : Nat → Int32} (hp : p ≤ 1) (ht : t ≤ 40) (h : rg_UI a2 p fr M t b2) (hj : j < fr ∨ t ≤ j) (h40 : j < 40) (hfr : fr ≤ 40) : b2 j = a2 j ∧ b2 (40 + j) = a2 (40 + j) := by
  constructor
  · by_cases e : b2 j = a2 j
    · exact e
    · have := h.2.1 j e
      omega
  · by_cases e : b2 (40 + j) = a2 (40 + j)
    · exact e
    · have := h.2.1 (40 + j) e
      omega
/-- arrive: refused, and nothing is touched; or the move is used and the saved fields are those of the new moves -/
theorem rg_warrive {post : Int32 → St1 → Prop} {s : Nat → Nat} {n p f mv : Nat} (hn : n ≤ 40) (hpc : pc = nI n) (hp : p ≤ 1) (hf : f < 2 ^ 31) (hm : mv ≤ 3) (hA : rg_A a3 s) (hC : rg_C a2 s)
    (HB : post (-1) (pc, a1, a2, a3, a4, a5, a6))
    (HG : f < 40 → a1 (p * 40 + f) = 0 → ∀ (c : Nat) (s' : Nat → Nat) (b2 b3 b4 b5 b6 : Nat → Int32), b2 (p * 40 + f) = nI mv → rg_RO b2 s f n c s' b3 → post (nI c) (pc, upd a1 (p * 40 + f) 1, b2, b3, b4, b5, b6)) : wpX_arrive post (pc, a1, a2, a3, a4, a5, a6) (nI p) (nI f) (nI mv) := by
  unfold wpX_arrive
  refine rg_wpl hp (br_f (by decide) (rg_wfr hf (fun h40 => br_f (by decide) ?_) (fun _ => br_t rfl HB)))
  have vi : vp_in (nI p * 40 + nI f) 80 := by
    rw [rg_ix]
    exact vp_in_nI (by omega) (by omega)
  have ci : (nI p * 40 + nI f).toNatClampNeg = p * 40 + f := by
    rw [rg_ix]
    exact nI_clamp (by omega)
  refine br_f (nI_pos (by omega)) (pk_lt 3 mv (fun _ => HB) (fun _ => ⟨vi, br_c (fun e1 => ⟨vi, nm_r (e' := upd a1 (p * 40 + f) 1) (by rw [ci]) ?_⟩) (fun _ => HB)⟩))
  rw [ci] at e1
  refine rg_wuse hp h40 hm (fun t b2 ht hU => pk_le t f (fun g => ?_) (fun g => ?_))
  · refine HG h40 e1 0 s b2 a3 a4 a5 a6 hU.2.2 ⟨hA, fun _ _ => rfl, fun j hj => ?_, Nat.zero_le _, fun j _ _ z => absurd rfl z⟩
    have e := rg_UI_cell (j := j) hp ht hU (by have := hU.1; omega) hj (by omega)
    rw [e.1, e.2]
    exact hC j hj
  · refine rg_wreplay hn hpc (by omega) ht g hA (fun j hj => ?_) (fun j hj hj' => ?_) (fun c s' b3 b4 b5 b6 hR => HG h40 e1 c s' b2 b3 b4 b5 b6 hU.2.2 hR)
    · have e := rg_UI_cell (j := j) hp ht hU (Or.inl hj) (by omega) (by omega)
      rw [e.1, e.2]
      exact hC j (by omega)
    · have e := rg_UI_cell (j := j) hp ht hU (Or.inr hj) hj' (by omega)
      rw [e.1, e.2]
      exact hC j hj'
end
end
section
/-! looking -/
section
variable {pc : Int32} {a1 a2 a3 a4 a5 a6 : Nat → Int32}
theorem rg_wfm {post : Int32 → Prop} {p t : Nat} (hp : p ≤ 1) (h : rg_fm a1 p t) (H : post (nI t)) : wpX_firstMissing post (pc, a1, a2, a3, a4, a5, a6) (nI p) := by
  have ht := h.1
  have vi : ∀ i, i < 40 → vp_in (nI p * 40 + nI i) 80 := by
    intro i hi
    rw [rg_ix]
    exact vp_in_nI (by omega) (by omega)
  have ci : ∀ i, i < 40 → (nI p * 40 + nI i).toNatClampNeg = p * 40 + i := by
    intro i hi
    rw [rg_ix]
    exact nI_clamp (by omega)
  refine pk_loop (σ := Unit) (fun m i _ => wX_firstMissing_2 post (nI p) pc a1 a2 a3 a4 a5 a6 m (nI i)) (fun _ _ => True) t 0 () (by omega) trivial (fun m _ _ => ?_) (fun m i _ hi _ hw => ?_)
  · refine pk_le 40 t (fun _ => H) (fun z => ⟨vi t z, br_t ?_ H⟩)
    rw [ci t z]
    exact h.2.2 z
  · refine pk_le 40 i (fun z => absurd z (by omega)) (fun z => ⟨vi i z, br_f ?_ (nm_r (nI_1 i) (hw () trivial))⟩)
    rw [ci i z]
    exact h.2.1 i hi
theorem rg_wmissing {post : Int32 → Prop} {p t : Nat} (hp : p ≤ 1) (h : rg_fm a1 p t) (H2 : t = 40 → post (-2)) (H : t < 40 → post (nI t)) : wpX_missing post (pc, a1, a2, a3, a4, a5, a6) (nI p) := by
  have ht := h.1
  unfold wpX_missing
  exact rg_wpl hp (br_f (by decide) (rg_wfm hp h (pk_le 40 t (fun z => H2 (by omega)) (fun z => H z))))
theorem rg_wsure {post : Int32 → Prop} {t0 t1 : Nat} (h0 : rg_fm a1 0 t0) (h1 : rg_fm a1 1 t1) (H : post (nI (min t0 t1))) : wpX_sure post (pc, a1, a2, a3, a4, a5, a6) := by
  have b0 := h0.1
  have b1 := h1.1
  unfold wpX_sure
  refine rg_wfm (p := 0) (by omega) h0 (rg_wfm (p := 1) (by omega) h1 (pk_le t1 t0 (fun z => ?_) (fun z => ?_)))
  · rw [show min t0 t1 = t1 by omega] at H
    exact H
  · rw [show min t0 t1 = t0 by omega] at H
    exact H
theorem rg_wshown {post : Int32 → Prop} {k : Nat} (hk : k ≤ 40) (H : post (a3 k)) : wpX_shown post (pc, a1, a2, a3, a4, a5, a6) (nI k) := by
  refine br_f (nI_pos (by omega)) (pk_le k 40 (fun _ => ⟨vp_in_nI (by omega) (by omega), ?_⟩) (fun z => absurd z (by omega)))
  rw [nI_clamp (by omega)]
  exact H
theorem rg_wmove {post : Int32 → Prop} {p f : Nat} (hp : p ≤ 1) (hf : f < 2 ^ 31) (H : f < 40 → post (a2 (p * 40 + f))) (H1 : 40 ≤ f → post (-1)) : wpX_move post (pc, a1, a2, a3, a4, a5, a6) (nI p) (nI f) := by
  unfold wpX_move
  refine rg_wpl hp (br_f (by decide) (rg_wfr hf (fun h => br_f (by decide) ⟨?_, ?_⟩) (fun h => br_t rfl (H1 h))))
  · rw [rg_ix]
    exact vp_in_nI (by omega) (by omega)
  · rw [rg_ix, nI_clamp (by omega)]
    exact H h
theorem rg_wsettled {post : Int32 → Prop} {s : Nat → Nat} {n t0 t1 : Nat} (hn : n ≤ 40) (hpc : pc = nI n) (hA : rg_A a3 s) (h0 : rg_fm a1 0 t0) (h1 : rg_fm a1 1 t1) (H1 : (n ≤ min t0 t1 ∨ rg_ov (s (min t0 t1))) → post 1) (H0 : ¬ (n ≤ min t0 t1 ∨ rg_ov (s (min t0 t1))) → post 0) : wpX_settled post (pc, a1, a2, a3, a4, a5, a6) := by
  have b0 := h0.1
  have b1 := h1.1
  unfold wpX_settled
  refine rg_wsure h0 h1 (pk_le n (min t0 t1) (fun z => H1 (Or.inl z)) (fun z => ⟨vp_in_nI (by omega) (by omega), ?_⟩) hpc rfl)
  have hs := hA (min t0 t1) (by omega)
  rw [nI_clamp (by omega), hs.1]
  refine rg_isOver hs.2 (fun o => br_f (by decide) (H1 (Or.inr o))) (fun o => br_t rfl (H0 (fun q => ?_)))
  rcases q with q | q
  · omega
  · exact o q
theorem rg_wposition {post : Int32 → St1 → Prop} {s : Nat → Nat} {n p : Nat} (hn : n ≤ 40) (hpc : pc = nI n) (hp : p ≤ 1) (hA : rg_A a3 s) (H : ∀ b4 b5 b6 : Nat → Int32, post (nI (if p = 0 then s n % 10 else s n / 10 % 10)) (pc, a1, a2, a3, b4, b5, b6)) : wpX_position post (pc, a1, a2, a3, a4, a5, a6) (nI p) := by
  have hs := hA n hn
  unfold wpX_position
  refine rg_wpl hp (br_f (by decide) ⟨by rw [hpc]; exact vp_in_nI (by omega) (by omega), ?_⟩)
  rw [show pc.toNatClampNeg = n from by rw [hpc]; exact nI_clamp (by omega), hs.1]
  refine rg_load hs.2 (fun b4 b5 b6 d => ⟨vp_in_nI (by omega) (by omega), ?_⟩)
  have h := H b4 b5 b6
  rw [nI_clamp (by omega)]
  obtain rfl | rfl : p = 0 ∨ p = 1 := by omega
  · rw [d.1.1]
    exact h
  · rw [d.1.2]
    exact h
theorem rg_wstrength {post : Int32 → St1 → Prop} {s : Nat → Nat} {n p : Nat} (hn : n ≤ 40) (hpc : pc = nI n) (hp : p ≤ 1) (hA : rg_A a3 s) (H : ∀ b4 b5 b6 : Nat → Int32, post (nI (if p = 0 then s n / 100 % 10 else s n / 1000 % 10)) (pc, a1, a2, a3, b4, b5, b6)) : wpX_strength post (pc, a1, a2, a3, a4, a5, a6) (nI p) := by
  have hs := hA n hn
  unfold wpX_strength
  refine rg_wpl hp (br_f (by decide) ⟨by rw [hpc]; exact vp_in_nI (by omega) (by omega), ?_⟩)
  rw [show pc.toNatClampNeg = n from by rw [hpc]; exact nI_clamp (by omega), hs.1]
  refine rg_load hs.2 (fun b4 b5 b6 d => ⟨vp_in_nI (by omega) (by omega), ?_⟩)
  have h := H b4 b5 b6
  rw [nI_clamp (by omega)]
  obtain rfl | rfl : p = 0 ∨ p = 1 := by omega
  · rw [d.2.1.1]
    exact h
  · rw [d.2.1.2]
    exact h
theorem rg_wpause {post : Int32 → St1 → Prop} {s : Nat → Nat} {n p : Nat} (hn : n ≤ 40) (hpc : pc = nI n) (hp : p ≤ 1) (hA : rg_A a3 s) (H : ∀ b4 b5 b6 : Nat → Int32, post (nI (if p = 0 then s n / 10000 % 10 else s n / 100000)) (pc, a1, a2, a3, b4, b5, b6)) : wpX_pause post (pc, a1, a2, a3, a4, a5, a6) (nI p) := by
  have hs := hA n hn
  unfold wpX_pause
  refine rg_wpl hp (br_f (by decide) ⟨by rw [hpc]; exact vp_in_nI (by omega) (by omega), ?_⟩)
  rw [show pc.toNatClampNeg = n from by rw [hpc]; exact nI_clamp (by omega), hs.1]
  refine rg_load hs.2 (fun b4 b5 b6 d => ⟨vp_in_nI (by omega) (by omega), ?_⟩)
  have h := H b4 b5 b6
  rw [nI_clamp (by omega)]
  obtain rfl | rfl : p = 0 ∨ p = 1 := by omega
  · rw [d.2.2.1.1]
    exact h
  · rw [d.2.2.1.2]
    exact h
theorem rg_wwinner {post : Int32 → St1 → Prop} {s : Nat → Nat} {k : Nat} (hk : k ≤ 40) (hA : rg_A a3 s) (H0 : ¬ rg_ov (s k) → post (-2) (pc, a1, a2, a3, a4, a5, a6)) (H1 : rg_ov (s k) → ∀ (r : Int32) (b4 b5 b6 : Nat → Int32), ¬ r = -2 → post r (pc, a1, a2, a3, b4, b5, b6)) : wpX_winner post (pc, a1, a2, a3, a4, a5, a6) (nI k) := by
  have hs := hA k hk
  refine br_f (nI_pos (by omega)) (pk_le k 40 (fun _ => ⟨vp_in_nI (by omega) (by omega), ?_⟩) (fun z => absurd z (by omega)))
  rw [nI_clamp (by omega), hs.1]
  refine rg_isOver hs.2 (fun o => br_f (by decide) ⟨vp_in_nI (by omega) (by omega), rg_load hs.2 (fun b4 b5 b6 _ => ?_)⟩) (fun o => br_t rfl (H0 o))
  exact br_c (fun _ => br_c (fun _ => H1 o 2 b4 b5 b6 (by decide)) (fun _ => H1 o 1 b4 b5 b6 (by decide))) (fun _ => H1 o 0 b4 b5 b6 (by decide))
/-- the first saved field that is over, or 41 -/
def rg_fo (s : Nat → Nat) (k : Nat) : Prop := k ≤ 41 ∧ (∀ j, j < k → ¬ rg_ov (s j)) ∧ (k < 41 → rg_ov (s k))
theorem rg_fo_ex (s : Nat → Nat) : ∃ k, rg_fo s k := by
  obtain ⟨k, hk, hl⟩ := pk_least (fun k => 41 ≤ k ∨ rg_ov (s k)) ⟨41, Or.inl (Nat.le_refl 41)⟩
  have h41 : k ≤ 41 := by
    rcases Nat.lt_or_ge 41 k with z | z
    · exact absurd (Or.inl (Nat.le_refl 41)) (hl 41 z)
    · exact z
  refine ⟨k, h41, fun j hj e => hl j hj (Or.inr e), fun h => ?_⟩
  rcases hk with z | z
  · omega
  · exact z
theorem rg_wover {post : Int32 → Prop} {s : Nat → Nat} {k : Nat} (hA : rg_A a3 s) (h : rg_fo s k) (H : k < 41 → post (nI k)) (H2 : k = 41 → post (-2)) : wpX_overAfter post (pc, a1, a2, a3, a4, a5, a6) := by
  have hk := h.1
  refine pk_loop (σ := Unit) (fun m i _ => wX_overAfter_2 post pc a1 a2 a3 a4 a5 a6 m (nI i)) (fun _ _ => True) k 0 () (by omega) trivial (fun m _ _ => ?_) (fun m i _ hi _ hw => ?_)
  · refine pk_lt 40 k (fun z => H2 (by omega)) (fun z => ⟨vp_in_nI (by omega) (by omega), ?_⟩)
    have hs := hA k z
    rw [nI_clamp (by omega), hs.1]
    exact rg_isOver hs.2 (fun _ => br_f (by decide) (H (by omega))) (fun o => absurd (h.2.2 (by omega)) o)
  · refine pk_lt 40 i (fun z => absurd z (by omega)) (fun z => ⟨vp_in_nI (by omega) (by omega), ?_⟩)
    have hs := hA i z
    rw [nI_clamp (by omega), hs.1]
    exact rg_isOver hs.2 (fun o => absurd o (h.2.1 i hi)) (fun _ => br_t rfl (nm_r (nI_1 i) (hw () trivial)))
end
end
section
/-! the law's own methods -/
section
variable {a1 a2 a3 a4 a5 a6 : Nat → Int32}
theorem rg_wplayed {post : Int32 → Prop} {pc : Int32} (H : post pc) : wpX_played post (pc, a1, a2, a3, a4, a5, a6) := H
theorem rg_sum {v : Nat} : ((((nI (v % 10) + 10 * nI (v / 10 % 10)) + 100 * nI (v / 100 % 10)) + 1000 * nI (v / 1000 % 10)) + 10000 * nI (v / 10000 % 10)) + 100000 * nI (v / 100000) = nI v := by
  rw [show (10 : Int32) * nI (v / 10 % 10) = nI (10 * (v / 10 % 10)) from pk_mul 10 _, show (100 : Int32) * nI (v / 100 % 10) = nI (100 * (v / 100 % 10)) from pk_mul 100 _, show (1000 : Int32) * nI (v / 1000 % 10) = nI (1000 * (v / 1000 % 10)) from pk_mul 1000 _, show (10000 : Int32) * nI (v / 10000 % 10) = nI (10000 * (v / 10000 % 10)) from pk_mul 10000 _, show (100000 : Int32) * nI (v / 100000) = nI (100000 * (v / 100000)) from pk_mul 100000 _, nI_add, nI_add, nI_add, nI_add, nI_add]
  exact congrArg nI (by omega)
theorem rg_p95 {post : Int32 → St1 → Prop} {s : Nat → Nat} {n t0 t1 : Nat} (hn : n ≤ 40) (hA : rg_A a3 s) (h0 : rg_fm a1 0 t0) (h1 : rg_fm a1 1 t1) (H : post 1 (nI n, a1, a2, a3, a4, a5, a6)) : wL_picture_95 post (nI n) (nI (s n)) (nI t0) (nI t1) (nI n) a1 a2 a3 a4 a5 a6 := by
  have b0 := h0.1
  have b1 := h1.1
  unfold wL_picture_95
  refine rg_wshown hn (br_t (hA n hn).1 (rg_wsure h0 h1 (pk_le t1 t0 (fun z => br_t ?_ H) (fun z => br_t ?_ H))))
  · rw [show min t0 t1 = t1 by omega]
  · rw [show min t0 t1 = t0 by omega]
theorem rg_p81 {post : Int32 → St1 → Prop} {s : Nat → Nat} {n t0 t1 : Nat} {r : Int32} (hn : n ≤ 40) (hA : rg_A a3 s) (h0 : rg_fm a1 0 t0) (h1 : rg_fm a1 1 t1) (hr : (t1 = 40 ∧ r = -2) ∨ r = nI t1) (H : post 1 (nI n, a1, a2, a3, a4, a5, a6)) : wL_picture_81 post (nI n) (nI (s n)) r (nI t0) (nI n) a1 a2 a3 a4 a5 a6 := by
  have b1 := h1.1
  have h := rg_p95 (post := post) hn hA h0 h1 H
  rcases hr with ⟨e, er⟩ | er
  · rw [er]
    rw [e] at h
    exact br_f (by decide) h
  · rw [er]
    exact br_t (nI_pos' (by omega)) h
theorem rg_wpicture {post : Int32 → St1 → Prop} {s : Nat → Nat} {n : Nat} (hn : n ≤ 40) (hA : rg_A a3 s) (H : ∀ b4 b5 b6 : Nat → Int32, post 1 (nI n, a1, a2, a3, b4, b5, b6)) : wpL_picture post (nI n, a1, a2, a3, a4, a5, a6) := by
  obtain ⟨t0, h0⟩ := rg_fm_ex a1 0
  obtain ⟨t1, h1⟩ := rg_fm_ex a1 1
  unfold wpL_picture
  refine rg_wplayed ?_
  refine rg_wposition (p := 0) hn rfl (by omega) hA (fun b4 b5 b6 => ?_)
  refine rg_wposition (p := 1) hn rfl (by omega) hA (fun b4 b5 b6 => ?_)
  refine rg_wstrength (p := 0) hn rfl (by omega) hA (fun b4 b5 b6 => ?_)
  refine rg_wstrength (p := 1) hn rfl (by omega) hA (fun b4 b5 b6 => ?_)
  refine rg_wpause (p := 0) hn rfl (by omega) hA (fun b4 b5 b6 => ?_)
  refine rg_wpause (p := 1) hn rfl (by omega) hA (fun b4 b5 b6 => ?_)
  refine nm_r (e' := nI (s n)) rg_sum ?_
  have h81 := fun (r : Int32) hr => rg_p81 (post := post) (r := r) hn hA h0 h1 hr (H b4 b5 b6)
  have h81' : ∀ (r : Int32), t0 = 40 → ((t1 = 40 ∧ r = -2) ∨ r = nI t1) → wL_picture_81 post (nI n) (nI (s n)) r 40 (nI n) a1 a2 a3 b4 b5 b6 := by
    intro r e hr
    have h := h81 r hr
    rw [e] at h
    exact h
  have b0 := h0.1
  refine rg_wmissing (p := 0) (by omega) h0 (fun e0 => ?_) (fun e0 => ?_)
  · exact rg_wmissing (p := 1) (by omega) h1 (fun e1 => br_f (by decide) (h81' _ e0 (Or.inl ⟨e1, rfl⟩))) (fun e1 => br_f (by decide) (h81' _ e0 (Or.inr rfl)))
  · exact rg_wmissing (p := 1) (by omega) h1 (fun e1 => br_t (nI_pos' (by omega)) (h81 _ (Or.inl ⟨e1, rfl⟩))) (fun e1 => br_t (nI_pos' (by omega)) (h81 _ (Or.inr rfl)))
/-! fight -/
theorem rg_f78 {post : Int32 → St1 → Prop} {J : Int32 → Int32 → (Nat → Int32) → (Nat → Int32) → (Nat → Int32) → (Nat → Int32) → (Nat → Int32) → (Nat → Int32) → Prop} {pc x1 : Int32} {i u v : Nat} (hu : u < 1000000) (hv : v < 1000000) (h1 : v / 100 % 10 ≤ u / 100 % 10) (h2 : v / 1000 % 10 ≤ u / 1000 % 10) (H : J (nI (i + 1)) pc a1 a2 a3 a4 a5 a6) : wL_fight_78 post J x1 (nI i) (nI u) (nI v) pc a1 a2 a3 a4 a5 a6 := by
  unfold wL_fight_78
  rw [rg_g100 hu, rg_g100 hv, rg_g1000 hu, rg_g1000 hv]
  exact ⟨by decide, by decide, by decide, by decide, pk_lt (u / 100 % 10) (v / 100 % 10) (fun z => absurd z (by omega)) (fun _ => ⟨by decide, by decide, by decide, by decide, pk_le (v / 1000 % 10) (u / 1000 % 10) (fun _ => nm_r (nI_1 i) H) (fun z => absurd z (by omega))⟩)⟩
theorem rg_f46 {post : Int32 → St1 → Prop} {J : Int32 → Int32 → (Nat → Int32) → (Nat → Int32) → (Nat → Int32) → (Nat → Int32) → (Nat → Int32) → (Nat → Int32) → Prop} {pc x1 d : Int32} {s : Nat → Nat} {i : Nat} (hi : i ≤ 40) (hA : rg_A a3 s) (hC : rg_C a2 s) (H : J (nI (i + 1)) pc a1 a2 a3 a4 a5 a6) : wL_fight_46 post J x1 (nI i) d d pc a1 a2 a3 a4 a5 a6 := by
  have hs := hA i hi
  refine br_t rfl (rg_wshown hi ?_)
  rw [hs.1]
  refine pk_le 40 i (fun _ => rg_f78 hs.2 hs.2 (Nat.le_refl _) (Nat.le_refl _) H) (fun z => ?_)
  rw [nI_1]
  have hs' := hA (i + 1) (by omega)
  have hst := rg_step_ok hs.2 (a2 i) (a2 (40 + i))
  rw [← hC i z] at hst
  refine rg_wshown (by omega) ?_
  rw [hs'.1]
  exact rg_f78 hs.2 hs'.2 hst.2.1 hst.2.2 H
theorem rg_wfight {post : Int32 → St1 → Prop} {pc : Int32} {s : Nat → Nat} (hA : rg_A a3 s) (hC : rg_C a2 s) (H : ∀ b4 b5 b6 : Nat → Int32, post 1 (pc, a1, a2, a3, b4, b5, b6)) : wpL_fight post (pc, a1, a2, a3, a4, a5, a6) := by
  obtain ⟨k, hk⟩ := rg_fo_ex s
  have k41 := hk.1
  have due : ∀ i, i ≤ 40 → (rg_ov (s i) ↔ k ≤ i) := by
    intro i hi
    constructor
    · intro o
      rcases Nat.lt_or_ge i k with z | z
      · exact absurd o (hk.2.1 i z)
      · exact z
    · intro z
      have o := hk.2.2 (by omega)
      rw [rg_C_stay hC o z hi]
      exact o
  have main : ∀ x1 : Int32, ((k = 41 ∧ x1 = -2) ∨ (k < 41 ∧ x1 = nI k)) → ∃ m, wL_fight_7 post x1 m 0 pc a1 a2 a3 a4 a5 a6 := by
    intro x1 hx
    refine pk_loop (fun m i (t : (Nat → Int32) × (Nat → Int32) × (Nat → Int32)) => wL_fight_7 post x1 m (nI i) pc a1 a2 a3 t.1 t.2.1 t.2.2) (fun _ _ => True) 41 0 (a4, a5, a6) (by omega) trivial ?_ ?_
    · rintro m ⟨b4, b5, b6⟩ _
      exact pk_lt 40 41 (fun _ => H b4 b5 b6) (fun z => absurd z (by omega))
    · rintro m i ⟨b4, b5, b6⟩ hi _ hw
      have hi' : i ≤ 40 := by omega
      refine pk_lt 40 i (fun z => absurd z (by omega)) (fun _ => rg_wwinner hi' hA (fun no => ?_) (fun o r c4 c5 c6 hr => ?_))
      · have ik : i < k := by
          rcases Nat.lt_or_ge i k with z | z
          · exact z
          · exact absurd ((due i hi').mpr z) no
        have f32 : wL_fight_32 post (wL_fight_7 post x1 m) x1 (nI i) (-2) pc a1 a2 a3 b4 b5 b6 := br_t rfl (rg_f46 hi' hA hC (hw (b4, b5, b6) trivial))
        rcases hx with ⟨_, ex⟩ | ⟨k40, ex⟩
        · exact br_t (by rw [ex]; decide) f32
        · exact br_f (by rw [ex]; exact nI_pos (by omega)) (br_t (by rw [ex]; exact nI_lt ik (by omega)) f32)
      · have ki : k ≤ i := (due i hi').mp o
        have ex : x1 = nI k := by
          rcases hx with ⟨e, _⟩ | ⟨_, e⟩
          · omega
          · exact e
        exact br_f (by rw [ex]; exact nI_pos (by omega)) (br_f (by rw [ex]; exact nI_nlt ki (by omega)) (br_f hr (rg_f46 hi' hA hC (hw (c4, c5, c6) trivial))))
  unfold wpL_fight
  exact rg_wover hA hk (fun z => main _ (Or.inr ⟨z, rfl⟩)) (fun z => main _ (Or.inl ⟨z, rfl⟩))
/-! arrive, as the law watches it -/
def rg_mvv (a2 : Nat → Int32) (p f : Nat) : Int32 := if f < 40 then a2 (p * 40 + f) else -1
theorem rg_wmv {post : Int32 → Prop} {pc : Int32} {p f : Nat} (hp : p ≤ 1) (hf : f < 2 ^ 31) (H : post (rg_mvv a2 p f)) : wpX_move post (pc, a1, a2, a3, a4, a5, a6) (nI p) (nI f) := by
  unfold rg_mvv at H
  refine rg_wmove hp hf (fun h => ?_) (fun h => ?_)
  · rw [if_pos h] at H
    exact H
  · rw [if_neg (by omega)] at H
    exact H
def rg_set (s : Nat → Nat) (n m : Nat) : Int32 := if n ≤ m ∨ rg_ov (s m) then 1 else 0
theorem rg_wset {post : Int32 → Prop} {s : Nat → Nat} {n t0 t1 : Nat} (hn : n ≤ 40) (hA : rg_A a3 s) (h0 : rg_fm a1 0 t0) (h1 : rg_fm a1 1 t1) (H : post (rg_set s n (min t0 t1))) : wpX_settled post (nI n, a1, a2, a3, a4, a5, a6) := by
  unfold rg_set at H
  refine rg_wsettled hn rfl hA h0 h1 (fun h => ?_) (fun h => ?_)
  · rw [if_pos h] at H
    exact H
  · rw [if_neg h] at H
    exact H
theorem rg_set_ne {s : Nat → Nat} {n m : Nat} (h : ¬ rg_set s n m = 0) : n ≤ m ∨ rg_ov (s m) := by
  by_cases z : n ≤ m ∨ rg_ov (s m)
  · exact z
  · exact absurd (if_neg z) h
theorem rg_set_1 {s : Nat → Nat} {n m : Nat} (h : n ≤ m ∨ rg_ov (s m)) : ¬ rg_set s n m = 0 := by
  unfold rg_set
  rw [if_pos h]
  decide
theorem rg_a90 {post : Int32 → St1 → Prop} {s : Nat → Nat} {n p f mv t0 t1 : Nat} {x7 x8 x10 G : Int32} (hn : n ≤ 40) (hp : p ≤ 1) (hf : f < 2 ^ 31) (hA : rg_A a3 s) (h0 : rg_fm a1 0 t0) (h1 : rg_fm a1 1 t1)
    (hset : x8 = 0 ∨ ((n ≤ min t0 t1 ∨ rg_ov (s (min t0 t1))) ∧ a3 n = x10)) (hmv : G < 0 ∨ rg_mvv a2 p f = nI mv) (hch : a3 n = x10 ∨ ¬ G ≤ 0) (hle : ¬ nI n < G) (hbad : G = -1 → x7 = rg_mvv a2 p f)
    (H : post 1 (nI n, a1, a2, a3, a4, a5, a6)) : wL_arrive_90 post (nI p) (nI f) (nI mv) x7 x8 (nI n) x10 G 1 (nI n) a1 a2 a3 a4 a5 a6 := by
  have k157 : wL_arrive_157 post (nI p) (nI f) x7 (nI n) G (nI n) a1 a2 a3 a4 a5 a6 := br_f hle (br_c (fun e => rg_wmv hp hf (br_t (hbad e) H)) (fun _ => H))
  have k147 : ∀ x13 : Int32, (x13 = 0 ∨ ¬ G ≤ 0) → wL_arrive_147 post (nI p) (nI f) x7 (nI n) G x13 (nI n) a1 a2 a3 a4 a5 a6 := by
    intro x13 h
    refine br_c (fun _ => k157) (fun z => br_f ?_ k157)
    rcases h with h | h
    · exact absurd h z
    · exact h
  have k130 : ∀ x13 : Int32, (x13 = 0 ∨ ¬ G ≤ 0) → (a3 n = x10 → x13 = 0) → wL_arrive_130 post (nI p) (nI f) x7 x8 (nI n) G x13 (nI n) a1 a2 a3 a4 a5 a6 := by
    intro x13 h h9
    refine br_c (fun _ => k147 x13 h) (fun z => rg_wset hn hA h0 h1 ?_)
    rcases hset with g | ⟨g, g'⟩
    · exact absurd g z
    · exact br_f (rg_set_1 g) (br_t (h9 g') (k147 x13 h))
  have k108 : ∀ x13 : Int32, (x13 = 0 ∨ ¬ G ≤ 0) → (a3 n = x10 → x13 = 0) → wL_arrive_108 post (nI p) (nI f) (nI mv) x7 x8 (nI n) G 1 x13 (nI n) a1 a2 a3 a4 a5 a6 := by
    intro x13 h h9
    refine br_f (by decide) (br_c (fun _ => k130 x13 h h9) (fun z => rg_wmv hp hf ?_))
    rcases hmv with g | g
    · exact absurd g z
    · exact br_t g (k130 x13 h h9)
  refine rg_wshown hn (br_c (fun e => k108 0 (Or.inl rfl) (fun _ => rfl)) (fun e => k108 1 (Or.inr ?_) (fun z => absurd z e)))
  rcases hch with g | g
  · exact absurd g e
  · exact g
theorem rg_warr {post : Int32 → St1 → Prop} {s : Nat → Nat} {n p f mv : Nat} (hn : n ≤ 40) (hp : p ≤ 1) (hf : f < 2 ^ 31) (hm : mv ≤ 3) (hA : rg_A a3 s) (hC : rg_C a2 s)
    (H : ∀ (s' : Nat → Nat) (b1 b2 b3 b4 b5 b6 : Nat → Int32), rg_A b3 s' → rg_C b2 s' → post 1 (nI n, b1, b2, b3, b4, b5, b6)) : wpL_arrive post (nI n, a1, a2, a3, a4, a5, a6) (nI p) (nI f) (nI mv) := by
  obtain ⟨t0, h0⟩ := rg_fm_ex a1 0
  obtain ⟨t1, h1⟩ := rg_fm_ex a1 1
  have b0 := h0.1
  have b1 := h1.1
  have e2 : nI (min t0 t1) / 2 = nI (min t0 t1 / 2) := pk_div (d := 2) (by omega) (by decide) (by decide)
  unfold wpL_arrive
  refine rg_wsure h0 h1 ?_
  rw [e2]
  refine rg_wshown (by omega) ⟨by decide, ?_⟩
  refine rg_wshown (by omega) (rg_wmv hp hf (rg_wset hn hA h0 h1 (rg_wplayed (rg_wshown hn ?_))))
  refine rg_warrive hn rfl hp hf hm hA hC ?_ (fun h40 h1f c s' c2 c3 c4 c5 c6 hmv hR => ?_)
  · refine rg_wshown (by omega) (br_t rfl ⟨by decide, rg_wshown (by omega) (br_t rfl ?_)⟩)
    refine rg_a90 hn hp hf hA h0 h1 ?_ (Or.inl (by decide)) (Or.inl rfl) ?_ (fun _ => rfl) (H s a1 a2 a3 a4 a5 a6 hA hC)
    · by_cases z : rg_set s n (min t0 t1) = 0
      · exact Or.inl z
      · exact Or.inr ⟨rg_set_ne z, rfl⟩
    · rw [Int32.lt_iff_toInt_lt, nI_toInt (by omega), show (-1 : Int32).toInt = -1 by decide]
      omega
  · obtain ⟨hA', hold, hC', hcn, hcount⟩ := hR
    have hSf : min t0 t1 ≤ f := by
      obtain rfl | rfl : p = 0 ∨ p = 1 := by omega
      · have := rg_fm_at h0 h1f
        omega
      · have := rg_fm_at h1 h1f
        omega
    have same : ∀ j, j ≤ 40 → j ≤ f → c3 j = a3 j := by
      intro j hj hjf
      rw [(hA' j hj).1, (hA j hj).1, hold j hjf]
    obtain ⟨u0, g0⟩ := rg_fm_ex (upd a1 (p * 40 + f) 1) 0
    obtain ⟨u1, g1⟩ := rg_fm_ex (upd a1 (p * 40 + f) 1) 1
    have l0 := rg_fm_le h0 g0 (by decide)
    have l1 := rg_fm_le h1 g1 (by decide)
    have w0 := g0.1
    have w1 := g1.1
    refine rg_wshown (by omega) (br_t (same _ (by omega) hSf) ⟨by decide, rg_wshown (by omega) (br_t (same _ (by omega) (by omega)) ?_)⟩)
    refine rg_a90 hn hp hf hA' g0 g1 ?_ (Or.inr ?_) ?_ (nI_nlt hcn (by omega)) (fun z => ?_) (H s' _ c2 c3 c4 c5 c6 hA' hC')
    · by_cases z : rg_set s n (min t0 t1) = 0
      · exact Or.inl z
      · refine Or.inr ?_
        rcases rg_set_ne z with q | q
        · exact ⟨Or.inl (by omega), same n hn (by omega)⟩
        · have q' : rg_ov (s' (min t0 t1)) := by
            rw [hold _ hSf]
            exact q
          have q2 : s' (min u0 u1) = s' (min t0 t1) := rg_C_stay hC' q' (by omega) (by omega)
          refine ⟨Or.inr (by rw [q2]; exact q'), ?_⟩
          rcases Nat.lt_or_ge n (min t0 t1) with y | y
          · exact same n hn (by omega)
          · rw [(hA' n hn).1, (hA n hn).1, rg_C_stay hC' q' y hn, rg_C_stay hC q y hn, hold _ hSf]
    · unfold rg_mvv
      rw [if_pos h40]
      exact hmv
    · by_cases e : s' n = s n
      · exact Or.inl (by rw [(hA' n hn).1, (hA n hn).1, e])
      · exact Or.inr (nI_nle (hcount n (Nat.le_refl n) hn e) (by omega))
    · exact absurd (show nI c < 0 by rw [z]; decide) (nI_pos (by omega))
end
end
section
/-! the law's loop, and the law -/
section
variable {a1 a2 a3 a4 a5 a6 : Nat → Int32}
/-- the loop's invariant -/
def rg_IN (u : St1) : Prop := ∃ (n : Nat) (s : Nat → Nat), n ≤ 40 ∧ u.1 = nI n ∧ rg_A u.2.2.2.1 s ∧ rg_C u.2.2.1 s
theorem rg_l113 {post : Int32 → Prop} {L : Nat} {xs : Nat → Int32} {J : Int32 → Int32 → (Nat → Int32) → (Nat → Int32) → (Nat → Int32) → (Nat → Int32) → (Nat → Int32) → (Nat → Int32) → Prop} {i kc ks n : Nat} {s : Nat → Nat} (hn : n ≤ 40) (hA : rg_A a3 s) (hC : rg_C a2 s) (H : ∀ b4 b5 b6 : Nat → Int32, J (nI (i + 1)) (nI n) a1 a2 a3 b4 b5 b6) : wL_law_113 post L xs J (nI i) kc ks (nI n) a1 a2 a3 a4 a5 a6 := by
  unfold wL_law_113
  refine rg_wpicture hn hA (fun b4 b5 b6 => br_f (by decide) ?_)
  exact rg_wfight hA hC (fun c4 c5 c6 => br_f (by decide) (nm_r (nI_1 i) (H c4 c5 c6)))
theorem rg_l80 {post : Int32 → Prop} {L : Nat} {xs : Nat → Int32} {J : Int32 → Int32 → (Nat → Int32) → (Nat → Int32) → (Nat → Int32) → (Nat → Int32) → (Nat → Int32) → (Nat → Int32) → Prop} {x3 x4 : Int32} {i kc ks n p f : Nat} {s : Nat → Nat} (hn : n ≤ 40) (hp : p ≤ 1) (hf : f < 2 ^ 31) (hA : rg_A a3 s) (hC : rg_C a2 s) (H : ∀ (n' : Nat) (s' : Nat → Nat) (b1 b2 b3 b4 b5 b6 : Nat → Int32), n' ≤ 40 → rg_A b3 s' → rg_C b2 s' → J (nI (i + 1)) (nI n') b1 b2 b3 b4 b5 b6) : wL_law_80 post L xs J (nI i) x3 x4 (nI p) (nI f) kc ks (nI n) a1 a2 a3 a4 a5 a6 := by
  refine br_c (fun _ => ?_) (fun _ => ?_)
  · refine pk_lt n 40 (fun z => nm_r (nI_1 n) (rg_l113 (by omega) hA hC (fun b4 b5 b6 => H (n + 1) s _ _ _ _ _ _ (by omega) hA hC))) (fun z => rg_l113 hn hA hC (fun b4 b5 b6 => H n s _ _ _ _ _ _ hn hA hC))
  · obtain ⟨mv, hm, em⟩ := pk_andE (x4 >>> ((8 : Int32) &&& 31)) 2 (m := 3) (by decide)
    rw [em]
    exact rg_warr hn hp hf (by omega) hA hC (fun s' b1 b2 b3 b4 b5 b6 hA' hC' => br_f (by decide) (rg_l113 hn hA' hC' (fun c4 c5 c6 => H n s' _ _ _ _ _ _ hn hA' hC')))
theorem rg_loop {L : Nat} {xs : Nat → Int32} {kc ks : Nat} (hL : L ≤ 260) (u : St1) (h : rg_IN u) : ∃ m, wL_law_10 (fun r => r = 1) L xs kc ks m 0 u.1 u.2.1 u.2.2.1 u.2.2.2.1 u.2.2.2.2.1 u.2.2.2.2.2.1 u.2.2.2.2.2.2 := by
  refine pk_loop (fun m i (t : St1) => wL_law_10 (fun r => r = 1) L xs kc ks m (nI i) t.1 t.2.1 t.2.2.1 t.2.2.2.1 t.2.2.2.2.1 t.2.2.2.2.2.1 t.2.2.2.2.2.2) (fun _ t => rg_IN t) L 0 u (by omega) h ?_ ?_
  · rintro m ⟨pc, a1, a2, a3, a4, a5, a6⟩ _
    exact pk_le L L (fun _ => (rfl : (1 : Int32) = 1)) (fun z => absurd z (by omega))
  · rintro m i ⟨pc, a1, a2, a3, a4, a5, a6⟩ hi ⟨n, s, hn, hpc, hA, hC⟩ hw
    have hpc' : pc = nI n := hpc
    subst hpc'
    have back : ∀ (n' : Nat) (s' : Nat → Nat) (b1 b2 b3 b4 b5 b6 : Nat → Int32), n' ≤ 40 → rg_A b3 s' → rg_C b2 s' → wL_law_10 (fun r => r = 1) L xs kc ks m (nI (i + 1)) (nI n') b1 b2 b3 b4 b5 b6 := fun n' s' b1 b2 b3 b4 b5 b6 hn' hA' hC' => hw (nI n', b1, b2, b3, b4, b5, b6) ⟨n', s', hn', rfl, hA', hC'⟩
    refine pk_le L i (fun z => absurd z (by omega)) (fun _ => ⟨vp_in_nI hi (by omega), fun x3 _ => ⟨vp_in_nI hi (by omega), fun x4 _ => ?_⟩⟩)
    obtain ⟨p, hp, ep⟩ := pk_andE x4 1 (m := 1) (by decide)
    refine nm_r ep ?_
    have hp' : p ≤ 1 := by omega
    have go : ∀ f : Nat, f < 2 ^ 31 → wL_law_80 (fun r => r = 1) L xs (wL_law_10 (fun r => r = 1) L xs kc ks m) (nI i) x3 x4 (nI p) (nI f) kc ks (nI n) a1 a2 a3 a4 a5 a6 := fun f hf => rg_l80 hn hp' hf hA hC back
    obtain ⟨f31, hf31, ef31⟩ := pk_andE (x4 >>> ((3 : Int32) &&& 31)) 5 (m := 31) (by decide)
    obtain ⟨f1, hf1, ef1⟩ := pk_andE (x4 >>> ((3 : Int32) &&& 31)) 1 (m := 1) (by decide)
    rw [ef31, ef1]
    obtain ⟨t, ht⟩ := rg_fm_ex a1 p
    have ht4 := ht.1
    refine rg_wmissing hp' ht (fun _ => br_c (fun _ => go f31 (by omega)) (fun _ => br_f (by decide) (go 0 (by omega)))) (fun _ => br_c (fun _ => go f31 (by omega)) (fun _ => br_t (nI_pos' (by omega)) ?_))
    rw [nI_add]
    exact go (t + f1) (by omega)
end
theorem i_vc (xs : Nat → Int32) (L : Nat) (hL : L ≤ 260) : wpL_law (fun r => r = 1) L xs := by
  refine ⟨6, 207, by decide, by decide, by decide, by decide, by decide, by decide, by decide, by decide, by decide, by decide, by decide, by decide, by decide, by decide, nm_e ?_⟩
  have hA : rg_A (upd (fun _ => 0) 0 (nI 5572)) (rg_put (fun _ => 0) 0 5572) := rg_A_put (fun j _ => ⟨rfl, by decide⟩) (by decide)
  refine rg_wreplay (fr := 0) (n := 0) (ut := 40) (by omega) rfl (by omega) (by omega) (by omega) hA (fun j hj => absurd hj (by omega)) (fun j h1 h2 => absurd h1 (by omega)) (fun c s b3 b4 b5 b6 hR => ?_)
  exact rg_loop hL (0, _, _, b3, b4, b5, b6) ⟨0, s, by omega, rfl, hR.1, hR.2.2.1⟩
end
