section
/-- a word's letters: base-7 digits, none of them 0, at most m -/
def gw_sz : Nat → Nat → Option Nat
  | 0, w => if w = 0 then some 0 else none
  | m + 1, w => if w = 0 then some 0 else if w % 7 = 0 then none else (gw_sz m (w / 7)).map (fun k => k + 1)
theorem gw_sz_0 (m : Nat) : gw_sz m 0 = some 0 := by cases m <;> simp [gw_sz]
theorem gw_sz_n {w : Nat} (h0 : w ≠ 0) : gw_sz 0 w = none := by simp [gw_sz, h0]
theorem gw_sz_z {w : Nat} (h0 : w ≠ 0) (h : w % 7 = 0) (m : Nat) : gw_sz m w = none := by cases m <;> simp [gw_sz, h0, h]
theorem gw_sz_s {w : Nat} (h0 : w ≠ 0) (h : w % 7 ≠ 0) (m : Nat) : gw_sz (m + 1) w = (gw_sz m (w / 7)).map (fun k => k + 1) := by simp [gw_sz, h0, h]
theorem gw_dv (w j : Nat) : w / 7 ^ (j + 1) = w / 7 / 7 ^ j := by rw [Nat.div_div_eq_div_mul, Nat.pow_succ, Nat.mul_comm (7 ^ j) 7]
theorem gw_dv' (w j : Nat) : w / 7 ^ (j + 1) = w / 7 ^ j / 7 := by rw [Nat.div_div_eq_div_mul, Nat.pow_succ]
theorem gw_sz_dig : ∀ (m w k : Nat), gw_sz m w = some k → k ≤ m ∧ (∀ j, j < k → w / 7 ^ j % 7 ≠ 0) ∧ w / 7 ^ k = 0 := by
  intro m
  induction m with
  | zero =>
    intro w k h
    by_cases h0 : w = 0
    · subst h0
      rw [gw_sz_0] at h
      obtain rfl : 0 = k := Option.some.inj h
      exact ⟨by omega, fun j hj => absurd hj (by omega), by simp⟩
    · rw [gw_sz_n h0] at h
      exact absurd h (by simp)
  | succ m ih =>
    intro w k h
    by_cases h0 : w = 0
    · subst h0
      rw [gw_sz_0] at h
      obtain rfl : 0 = k := Option.some.inj h
      exact ⟨by omega, fun j hj => absurd hj (by omega), by simp⟩
    · by_cases h7 : w % 7 = 0
      · rw [gw_sz_z h0 h7] at h
        exact absurd h (by simp)
      · rw [gw_sz_s h0 h7] at h
        cases e : gw_sz m (w / 7) with
        | none => rw [e] at h; exact absurd h (by simp)
        | some q =>
          rw [e] at h
          obtain rfl : q + 1 = k := Option.some.inj h
          obtain ⟨i1, i2, i3⟩ := ih (w / 7) q e
          refine ⟨by omega, fun j hj => ?_, ?_⟩
          · cases j with
            | zero => simpa using h7
            | succ j => rw [gw_dv]; exact i2 j (by omega)
          · rw [gw_dv]; exact i3
def gw_sI (m : Nat) (x : Int32) : Option Nat := if x < 0 then none else gw_sz m x.toNatClampNeg
theorem gw_sI_n {m w : Nat} (hw : w < 2 ^ 31) : gw_sI m (nI w) = gw_sz m w := by
  unfold gw_sI
  rw [if_neg (nI_pos hw), nI_clamp hw]
theorem gw_sI_neg {m : Nat} {x : Int32} (h : x < 0) : gw_sI m x = none := if_pos h
theorem gw_sI_some {m k : Nat} {x : Int32} (h : gw_sI m x = some k) : ∃ w, w < 2 ^ 31 ∧ x = nI w ∧ k ≤ m ∧ (∀ j, j < k → w / 7 ^ j % 7 ≠ 0) ∧ w / 7 ^ k = 0 := by
  by_cases hx : x < 0
  · rw [gw_sI_neg hx] at h
    exact absurd h (by simp)
  · obtain ⟨w, hw, rfl⟩ := nI_of hx
    rw [gw_sI_n hw] at h
    obtain ⟨h1, h2, h3⟩ := gw_sz_dig m w k h
    exact ⟨w, hw, rfl, h1, h2, h3⟩
/-- the answer: n letters before, then those of the rest -/
def gw_an (n : Nat) : Option Nat → Int32
  | none => -1
  | some k => nI (k + n)
theorem gw_an_s (n : Nat) (o : Option Nat) : gw_an n (o.map (fun k => k + 1)) = gw_an (n + 1) o := by
  cases o with
  | none => rfl
  | some k => show nI (k + 1 + n) = nI (k + (n + 1)); rw [show k + 1 + n = k + (n + 1) by omega]
theorem gw_rem7 {w : Nat} (h : w < 2 ^ 31) : nI w - nI w / 7 * 7 = nI (w % 7) := pk_rem h (by decide) (by decide)
theorem gw_div7 {w : Nat} (h : w < 2 ^ 31) : nI w / 7 = nI (w / 7) := pk_div h (by decide) (by decide)
theorem gw_rem13 {w : Nat} (h : w < 2 ^ 31) : nI w - nI w / 13 * 13 = nI (w % 13) := pk_rem h (by decide) (by decide)
theorem gw_div13 {w : Nat} (h : w < 2 ^ 31) : nI w / 13 = nI (w / 13) := pk_div h (by decide) (by decide)
theorem gw_m4 (a : Nat) : (4 : Int32) * nI a = nI (4 * a) := pk_mul 4 a
theorem gw_m6 (a : Nat) : (6 : Int32) * nI a = nI (6 * a) := pk_mul 6 a
theorem gw_m13 (a : Nat) : (13 : Int32) * nI a = nI (13 * a) := pk_mul 13 a
theorem gw_i4 (a b : Nat) : (4 : Int32) * nI a + nI b = nI (4 * a + b) := by rw [gw_m4, nI_add]
theorem gw_i6 (a b : Nat) : (6 : Int32) * nI a + nI b = nI (6 * a + b) := by rw [gw_m6, nI_add]
theorem gw_i13 (a b : Nat) : (13 : Int32) * nI a + nI b = nI (13 * a + b) := by rw [gw_m13, nI_add]
/-- sums -/
def gw_sum : Nat → (Nat → Nat) → Nat
  | 0, _ => 0
  | n + 1, f => gw_sum n f + f n
theorem gw_sum_le {f : Nat → Nat} {b : Nat} : ∀ n, (∀ i, i < n → f i ≤ b) → gw_sum n f ≤ n * b := by
  intro n
  induction n with
  | zero => intro _; exact Nat.zero_le _
  | succ n ih =>
    intro h
    have h1 := ih (fun i hi => h i (by omega))
    have h2 := h n (by omega)
    rw [Nat.succ_mul]
    exact Nat.add_le_add h1 h2
theorem gw_sum_1 {f : Nat → Nat} : ∀ n, (∀ i, i < n → f i = 1) → gw_sum n f = n := by
  intro n
  induction n with
  | zero => intro _; rfl
  | succ n ih =>
    intro h
    show gw_sum n f + f n = n + 1
    rw [ih (fun i hi => h i (by omega)), h n (by omega)]
/-- rules and the first word -/
def gw_P (RS : Nat → Nat) (R : Nat → Nat → Nat) (a1 a2 : Nat → Int32) : Prop := (∀ c, c < 6 → RS c ≤ 4 ∧ a1 c = nI (RS c)) ∧ (∀ c i, c < 6 → i < RS c → R c i < 6 ∧ a2 (4 * c + i) = nI (R c i))
def gw_plain (RS : Nat → Nat) (R : Nat → Nat → Nat) : Prop := ∀ c, c < 6 → RS c = 1 ∧ R c 0 = c
def gw_F (k : Nat) (F : Nat → Nat) (a3 : Nat → Int32) : Prop := 1 ≤ k ∧ k ≤ 8 ∧ ∀ i, i < k → F i < 6 ∧ a3 i = nI (F i)
/-- the length of what a letter is after l generations -/
def gw_S (RS : Nat → Nat) (R : Nat → Nat → Nat) : Nat → Nat → Nat
  | 0, _ => 1
  | l + 1, c => gw_sum (RS c) (fun i => gw_S RS R l (R c i))
def gw_len (RS : Nat → Nat) (R : Nat → Nat → Nat) (k : Nat) (F : Nat → Nat) (l : Nat) : Nat := gw_sum k (fun i => gw_S RS R l (F i))
def gw_Z (RS : Nat → Nat) (R : Nat → Nat → Nat) (a5 : Nat → Int32) : Prop := ∀ l c, l < 13 → c < 6 → a5 (13 * c + l) = nI (gw_S RS R l c)
theorem gw_S_le {RS : Nat → Nat} {R : Nat → Nat → Nat} {a1 a2 : Nat → Int32} (P : gw_P RS R a1 a2) : ∀ l c, c < 6 → gw_S RS R l c ≤ 4 ^ l := by
  intro l
  induction l with
  | zero => intro c _; exact Nat.le_refl 1
  | succ l ih =>
    intro c hc
    have h1 : gw_sum (RS c) (fun i => gw_S RS R l (R c i)) ≤ RS c * 4 ^ l := gw_sum_le (RS c) (fun i hi => ih (R c i) (P.2 c i hc hi).1)
    have h2 : RS c * 4 ^ l ≤ 4 * 4 ^ l := Nat.mul_le_mul_right _ (P.1 c hc).1
    have h3 : 4 * 4 ^ l = 4 ^ (l + 1) := by rw [Nat.pow_succ, Nat.mul_comm]
    show gw_sum (RS c) (fun i => gw_S RS R l (R c i)) ≤ 4 ^ (l + 1)
    omega
theorem gw_S_plain {RS : Nat → Nat} {R : Nat → Nat → Nat} (h : gw_plain RS R) : ∀ l c, c < 6 → gw_S RS R l c = 1 := by
  intro l
  induction l with
  | zero => intro c _; rfl
  | succ l ih =>
    intro c hc
    obtain ⟨h1, h2⟩ := h c hc
    show gw_sum (RS c) (fun i => gw_S RS R l (R c i)) = 1
    rw [h1]
    show 0 + gw_S RS R l (R c 0) = 1
    rw [h2, ih c hc]
theorem gw_pow {l : Nat} (h : l < 13) : 4 ^ l ≤ 16777216 := show 4 ^ l ≤ 4 ^ 12 from Nat.pow_le_pow_right (by decide) (by omega)
theorem gw_S_lt {RS : Nat → Nat} {R : Nat → Nat → Nat} {a1 a2 : Nat → Int32} (P : gw_P RS R a1 a2) {l c : Nat} (hl : l < 13) (hc : c < 6) : gw_S RS R l c ≤ 16777216 :=
  Nat.le_trans (gw_S_le P l c hc) (gw_pow hl)
theorem gw_len_lt {RS : Nat → Nat} {R : Nat → Nat → Nat} {a1 a2 a3 : Nat → Int32} {k : Nat} {F : Nat → Nat} (P : gw_P RS R a1 a2) (hF : gw_F k F a3) {l : Nat} (hl : l < 13) : gw_len RS R k F l ≤ 134217728 := by
  have h1 : gw_len RS R k F l ≤ k * 16777216 := gw_sum_le k (fun i hi => gw_S_lt P hl (hF.2.2 i hi).1)
  have h2 := hF.2.1
  omega
theorem gw_len_0 {RS : Nat → Nat} {R : Nat → Nat → Nat} {k : Nat} {F : Nat → Nat} : gw_len RS R k F 0 = k := gw_sum_1 k (fun _ _ => rfl)
theorem gw_len_p {RS : Nat → Nat} {R : Nat → Nat → Nat} {a3 : Nat → Int32} {k : Nat} {F : Nat → Nat} (h : gw_plain RS R) (hF : gw_F k F a3) (l : Nat) : gw_len RS R k F l = k := gw_sum_1 k (fun i hi => gw_S_plain h l (F i) (hF.2.2 i hi).1)
end
section
theorem gw_neg {x : Int32} (h : x < 0) : x ≤ 0 ∧ ¬ x = 0 := by
  refine ⟨Int32.le_of_lt h, fun e => ?_⟩
  rw [e] at h
  exact absurd h (by decide)
theorem gw_L45n {post : Int32 → Prop} {x2 x : Int32} (h : ¬ x = 0) (H : post (-1)) : wL_size_45 post x2 x := br_f h H
theorem gw_L45 {post : Int32 → Prop} {n w : Nat} (hw : w < 2 ^ 31) (H : post (gw_an n (gw_sz 0 w))) : wL_size_45 post (nI n) (nI w) :=
  pk_eq w 0 (fun z => by subst z; rw [gw_sz_0] at H; rw [show nI n = nI (0 + n) by rw [Nat.zero_add]]; exact H) (fun z => by rw [gw_sz_n z] at H; exact H)
theorem gw_Lsize {post : Int32 → Prop} {x : Int32} (m : Nat) (hm : m ≤ 8) (H : post (gw_an 0 (gw_sI m x))) : wpL_size post () x (nI m) := by
  by_cases hx : x < 0
  · rw [gw_sI_neg hx] at H
    obtain ⟨h1, h2⟩ := gw_neg hx
    exact pk_loop (σ := Unit) (fun n i _ => wL_size_7 post (nI m) n 0 x (nI i)) (fun _ _ => True) m 0 () (by omega) trivial
      (fun n _ _ => pk_le 8 m (fun _ => gw_L45n h2 H) (fun _ => pk_le m m (fun _ => gw_L45n h2 H) (fun z => absurd z (by omega))))
      (fun n i _ hi _ hw => pk_le 8 i (fun z => absurd z (by omega)) (fun _ => pk_le m i (fun z => absurd z (by omega)) (fun _ => br_t h1 (nm_r (nI_1 i) (hw () trivial)))))
  · obtain ⟨w, hw, rfl⟩ := nI_of hx
    rw [gw_sI_n hw] at H
    refine pk_loop (fun n i s => wL_size_7 post (nI m) n (nI s.1) (nI s.2) (nI i)) (fun i s => s.2 < 2 ^ 31 ∧ post (gw_an s.1 (gw_sz (m - i) s.2))) m 0 ((0, w) : Nat × Nat) (by omega) ⟨hw, H⟩ ?_ ?_
    · intro n s h
      obtain ⟨a, v⟩ := s
      obtain ⟨hv, h⟩ := h
      dsimp only at hv h ⊢
      rw [Nat.sub_self] at h
      exact pk_le 8 m (fun _ => gw_L45 hv h) (fun _ => pk_le m m (fun _ => gw_L45 hv h) (fun z => absurd z (by omega)))
    · intro n i s hi h hk
      obtain ⟨a, v⟩ := s
      obtain ⟨hv, h⟩ := h
      dsimp only at hv h ⊢
      have stay : (v = 0 ∨ v % 7 = 0) → wL_size_7 post (nI m) n (nI a) (nI v) (nI (i + 1)) := by
        intro z
        refine hk (a, v) ⟨hv, ?_⟩
        dsimp only
        by_cases v0 : v = 0
        · subst v0
          rw [gw_sz_0] at h ⊢
          exact h
        · have z7 : v % 7 = 0 := by omega
          rw [gw_sz_z v0 z7] at h ⊢
          exact h
      refine pk_le 8 i (fun z => absurd z (by omega)) (fun _ => pk_le m i (fun z => absurd z (by omega)) (fun _ => ?_))
      refine pk_le v 0 (fun z => nm_r (nI_1 i) (stay (by omega))) (fun z0 => ⟨by decide, ?_⟩)
      refine pk_le (v % 7) 0 (fun z => nm_r (nI_1 i) (stay (by omega))) (fun z7 => ⟨by decide, ?_⟩) (hx := gw_rem7 hv)
      refine nm_r (gw_div7 hv) (nm_r (nI_1 a) (nm_r (nI_1 i) (hk (a + 1, v / 7) ⟨?_, ?_⟩)))
      · show v / 7 < 2 ^ 31
        omega
      · dsimp only
        rw [show m - i = (m - (i + 1)) + 1 by omega, gw_sz_s (by omega) (by omega), gw_an_s] at h
        exact h
theorem gw_33n {post : Int32 → Prop} {x1 x x3 : Int32} (h : ¬ x = 0) (H : post (-1)) : wX_sizeOf_33 post x1 x x3 := br_f h H
theorem gw_33m {post : Int32 → Prop} {m w : Nat} (hm : m ≤ 8) (hw : w < 2 ^ 31) (H : post (-1)) : wX_sizeOf_33 post (nI m) (nI w) (nI (m + 1)) :=
  pk_eq w 0 (fun _ => pk_lt m (m + 1) (fun _ => H) (fun z => absurd z (by omega))) (fun _ => H)
theorem gw_sizeOf {post : Int32 → Prop} {x : Int32} (m : Nat) (hm : m ≤ 8) (H : post (gw_an 0 (gw_sI m x))) : wpX_sizeOf post () x (nI m) := by
  by_cases hx : x < 0
  · rw [gw_sI_neg hx] at H
    obtain ⟨h1, h2⟩ := gw_neg hx
    exact ⟨1, br_t h1 (gw_33n h2 H)⟩
  · obtain ⟨w, hw, rfl⟩ := nI_of hx
    rw [gw_sI_n hw] at H
    refine pk_loop (fun n i v => wX_sizeOf_4 post (nI m) n (nI v) (nI i)) (fun i v => v < 2 ^ 31 ∧ (i ≤ m → post (gw_an i (gw_sz (m - i) v))) ∧ (i = m + 1 → post (-1))) (m + 1) 0 w (by omega) ⟨hw, fun _ => H, fun z => absurd z (by omega)⟩ ?_ ?_
    · intro n v h
      obtain ⟨hv, _, h⟩ := h
      exact pk_le v 0 (fun _ => gw_33m hm hv (h rfl)) (fun _ => pk_lt m (m + 1) (fun _ => gw_33m hm hv (h rfl)) (fun z => absurd z (by omega)))
    · intro n i v hi h hk
      obtain ⟨hv, h, _⟩ := h
      have h := h (by omega)
      refine pk_le v 0 (fun z => ?_) (fun z0 => pk_lt m i (fun z => absurd z (by omega)) (fun _ => ⟨by decide, ?_⟩))
      · obtain rfl : v = 0 := by omega
        rw [gw_sz_0] at h
        exact br_t rfl (pk_lt m i (fun z => absurd z (by omega)) (fun _ => by rw [show nI i = nI (0 + i) by rw [Nat.zero_add]]; exact h))
      · refine pk_eq (v % 7) 0 (fun z => ?_) (fun z7 => ⟨by decide, nm_r (gw_div7 hv) (nm_r (nI_1 i) (hk (v / 7) ⟨by omega, fun z => ?_, fun z => ?_⟩))⟩) (hx := gw_rem7 hv)
        · rw [gw_sz_z (by omega) z] at h
          exact h
        · rw [show m - i = (m - (i + 1)) + 1 by omega, gw_sz_s (by omega) z7, gw_an_s] at h
          exact h
        · rw [show m - i = 0 by omega, gw_sz_n (by omega)] at h
          exact h
theorem gw_sizeOf' {post : Int32 → Prop} {x : Int32} (m : Nat) (hm : m ≤ 8) (hn : gw_sI m x = none → post (-1)) (hs : ∀ k, k ≤ m → gw_sI m x = some k → post (nI k)) : wpX_sizeOf post () x (nI m) := by
  refine gw_sizeOf m hm ?_
  cases h : gw_sI m x with
  | none => exact hn h
  | some k =>
    obtain ⟨_, _, _, hk, _⟩ := gw_sI_some h
    exact hs k hk h
end
section
theorem gw_init {post : St2 → Prop} {mc ms : Nat} {fs kn pn ps px py pt xl xh yl yh fl fr bl br lo tl : Int32} (hc : 25 ≤ mc) (hm : 2524 ≤ ms)
    (H : ∀ (a1 a2 : Nat → Int32), (∀ c, c < 6 → a1 c = nI 1) → (∀ c, c < 6 → a2 (4 * c) = nI c) → post (1, kn, pn, ps, px, py, pt, xl, xh, yl, yh, fl, fr, bl, br, lo, tl, a1, a2, fun _ => 0, fun _ => 0, fun _ => 0, fun _ => 0, fun _ => 0, fun _ => 0, fun _ => 0, fun _ => 0, fun _ => 0, fun _ => 0, fun _ => 0, fun _ => 0, fun _ => 0, fun _ => 0, fun _ => 0, fun _ => 0, fun _ => 0, fun _ => 0, fun _ => 0, fun _ => 0, fun _ => 0, fun _ => 0, fun _ => 0)) :
    wpX_init post mc ms (fs, kn, pn, ps, px, py, pt, xl, xh, yl, yh, fl, fr, bl, br, lo, tl) := by
  unfold wpX_init
  refine And.intro (by omega) (And.intro (by omega) (And.intro (by omega) (And.intro (by omega) (And.intro (by omega) (And.intro (by omega) (And.intro (by omega) (And.intro (by omega) (And.intro (by omega) (And.intro (by omega) (And.intro (by omega) (And.intro (by omega) (And.intro (by omega) (And.intro (by omega) (And.intro (by omega) (And.intro (by omega) (And.intro (by omega) (And.intro (by omega) (And.intro (by omega) (And.intro (by omega) (And.intro (by omega) (And.intro (by omega) (And.intro (by omega) (And.intro (by omega) (And.intro (by omega) (And.intro (by omega) (And.intro (by omega) (And.intro (by omega) (And.intro (by omega) (And.intro (by omega) (And.intro (by omega) (And.intro (by omega) (And.intro (by omega) (And.intro (by omega) (And.intro (by omega) (And.intro (by omega) (And.intro (by omega) (And.intro (by omega) (And.intro (by omega) (And.intro (by omega) (And.intro (by omega) (And.intro (by omega) (And.intro (by omega) (And.intro (by omega) (And.intro (by omega) (And.intro (by omega) (And.intro (by omega) (And.intro (by omega) (And.intro (by omega) (And.intro (by omega) ?_)))))))))))))))))))))))))))))))))))))))))))))))))
  refine pk_loop (fun n i s => wX_init_209 post mc ms 25 2524 fs kn pn ps px py pt xl xh yl yh fl fr bl br lo tl n (nI i) s.1 s.2 (fun _ => 0) (fun _ => 0) (fun _ => 0) (fun _ => 0) (fun _ => 0) (fun _ => 0) (fun _ => 0) (fun _ => 0) (fun _ => 0) (fun _ => 0) (fun _ => 0) (fun _ => 0) (fun _ => 0) (fun _ => 0) (fun _ => 0) (fun _ => 0) (fun _ => 0) (fun _ => 0) (fun _ => 0) (fun _ => 0) (fun _ => 0) (fun _ => 0) (fun _ => 0)) (fun i s => (∀ c, c < i → s.1 c = nI 1) ∧ (∀ c, c < i → s.2 (4 * c) = nI c)) 6 0 ((fun _ => 0, fun _ => 0) : (Nat → Int32) × (Nat → Int32)) (by omega) ⟨fun c z => absurd z (by omega), fun c z => absurd z (by omega)⟩ ?_ ?_
  · intro n s h
    exact pk_le 6 6 (fun _ => H s.1 s.2 h.1 h.2) (fun z => absurd z (by omega))
  · intro n i s hi h hk
    refine pk_le 6 i (fun z => absurd z (by omega)) (fun _ => ⟨pk_in i 6 hi, nm_e ⟨pk_in (4 * i) 24 (by omega) (gw_m4 i), nm_e (nm_r (nI_1 i) (hk (upd s.1 (nI i).toNatClampNeg 1, upd s.2 (4 * nI i).toNatClampNeg (nI i)) ⟨fun c hc => ?_, fun c hc => ?_⟩))⟩⟩)
    · show upd s.1 (nI i).toNatClampNeg 1 c = nI 1
      rw [nI_clamp (show i < 2 ^ 31 by omega)]
      by_cases e : c = i
      · rw [e, pk_us]; rfl
      · rw [pk_un e]; exact h.1 c (by omega)
    · show upd s.2 (4 * nI i).toNatClampNeg (nI i) (4 * c) = nI c
      rw [gw_m4, nI_clamp (show 4 * i < 2 ^ 31 by omega)]
      by_cases e : c = i
      · rw [e, pk_us]
      · rw [pk_un (show 4 * c ≠ 4 * i by omega)]; exact h.2 c (by omega)
/-- one letter of a word -/
theorem gw_let {v : Nat} (hv : v < 2 ^ 31) (h : v % 7 ≠ 0) : nI v - nI v / 7 * 7 - 1 = nI (v % 7 - 1) := by
  rw [gw_rem7 hv]
  exact pk_sub (b := 1) (by omega)
theorem gw_rule_31 {post : Int32 → St2 → Prop} {fs kn pn ps px py pt xl xh yl yh fl fr bl br lo tl : Int32} {a1 a2 a3 a4 a5 a6 a7 a8 a9 a10 a11 a12 a13 a14 a15 a16 a17 a18 a19 a20 a21 a22 a23 a24 a25 : Nat → Int32} {c k w : Nat} (hc : c < 6) (hk : k ≤ 4) (hw : w < 2 ^ 31) (hd : ∀ j, j < k → w / 7 ^ j % 7 ≠ 0)
    (H : ∀ s : Nat → Int32, (∀ j, j < k → s (4 * c + j) = nI (w / 7 ^ j % 7 - 1)) → (∀ q, (q < 4 * c ∨ 4 * c + 4 ≤ q) → s q = a2 q) → post (nI k) (fs, 0, 0, ps, px, py, pt, xl, xh, yl, yh, fl, fr, bl, br, lo, tl, upd a1 (nI c).toNatClampNeg (nI k), s, a3, a4, a5, a6, a7, a8, a9, a10, a11, a12, a13, a14, a15, a16, a17, a18, a19, a20, a21, a22, a23, a24, a25)) :
    ∃ n, wX_rule_31 post (nI c) (nI k) fs kn pn ps px py pt xl xh yl yh fl fr bl br lo tl n (nI w) 0 a1 a2 a3 a4 a5 a6 a7 a8 a9 a10 a11 a12 a13 a14 a15 a16 a17 a18 a19 a20 a21 a22 a23 a24 a25 := by
  refine pk_loop (fun n i s => wX_rule_31 post (nI c) (nI k) fs kn pn ps px py pt xl xh yl yh fl fr bl br lo tl n (nI s.1) (nI i) a1 s.2 a3 a4 a5 a6 a7 a8 a9 a10 a11 a12 a13 a14 a15 a16 a17 a18 a19 a20 a21 a22 a23 a24 a25)
    (fun i s => s.1 = w / 7 ^ i ∧ (∀ j, j < i → s.2 (4 * c + j) = nI (w / 7 ^ j % 7 - 1)) ∧ (∀ q, (q < 4 * c ∨ 4 * c + 4 ≤ q) → s.2 q = a2 q)) k 0 ((w, a2) : Nat × (Nat → Int32)) (by omega)
    ⟨by simp, fun j z => absurd z (by omega), fun q _ => rfl⟩ ?_ ?_
  · intro n s h
    exact pk_le k k (fun _ => ⟨pk_in c 6 hc, nm_e (H s.2 h.2.1 h.2.2)⟩) (fun z => absurd z (by omega))
  · intro n i s hi h hn
    obtain ⟨v, s⟩ := s
    obtain ⟨h1, h2, h3⟩ := h
    dsimp only at h1 h2 h3
    have hv : v < 2 ^ 31 := by rw [h1]; exact Nat.lt_of_le_of_lt (Nat.div_le_self _ _) hw
    have hv7 : v % 7 ≠ 0 := by rw [h1]; exact hd i hi
    refine pk_le k i (fun z => absurd z (by omega)) (fun _ => ⟨by decide, pk_in (4 * c + i) 24 (by omega) (gw_i4 c i), nm_e ⟨by decide, nm_r (gw_div7 hv) (nm_r (nI_1 i) (hn (v / 7, upd s (4 * nI c + nI i).toNatClampNeg (nI v - nI v / 7 * 7 - 1)) ⟨?_, ?_, ?_⟩))⟩⟩)
    · show v / 7 = w / 7 ^ (i + 1)
      rw [gw_dv', h1]
    · intro j hj
      show upd s (4 * nI c + nI i).toNatClampNeg (nI v - nI v / 7 * 7 - 1) (4 * c + j) = _
      rw [gw_i4, nI_clamp (show 4 * c + i < 2 ^ 31 by omega), gw_let hv hv7]
      by_cases e : j = i
      · rw [e, pk_us, h1]
      · rw [pk_un (show 4 * c + j ≠ 4 * c + i by omega)]; exact h2 j (by omega)
    · intro q hq
      show upd s (4 * nI c + nI i).toNatClampNeg (nI v - nI v / 7 * 7 - 1) q = _
      rw [gw_i4, nI_clamp (show 4 * c + i < 2 ^ 31 by omega), pk_un (show q ≠ 4 * c + i by omega)]
      exact h3 q hq
theorem gw_six {p0 : Int32} (h0 : ¬ p0 < 0) (h6 : p0 < 6) : ∃ c, c < 6 ∧ p0 = nI c := by
  obtain ⟨c, hc, rfl⟩ := nI_of h0
  exact ⟨c, (nI_ltI (b := 6) hc (by decide)).mp h6, rfl⟩
theorem gw_rule {post : Int32 → St2 → Prop} {fs kn pn ps px py pt xl xh yl yh fl fr bl br lo tl : Int32} {a1 a2 a3 a4 a5 a6 a7 a8 a9 a10 a11 a12 a13 a14 a15 a16 a17 a18 a19 a20 a21 a22 a23 a24 a25 : Nat → Int32} {p0 p1 : Int32} (K1 : ∀ c, c < 6 → a1 c = nI 1) (K2 : ∀ c, c < 6 → a2 (4 * c) = nI c)
    (Hn : (p0 < 0 ∨ ¬ p0 < 6) → post (-1) (fs, kn, pn, ps, px, py, pt, xl, xh, yl, yh, fl, fr, bl, br, lo, tl, a1, a2, a3, a4, a5, a6, a7, a8, a9, a10, a11, a12, a13, a14, a15, a16, a17, a18, a19, a20, a21, a22, a23, a24, a25))
    (Hm : ¬ p0 < 0 → p0 < 6 → gw_sI 4 p1 = none → post (-2) (fs, kn, pn, ps, px, py, pt, xl, xh, yl, yh, fl, fr, bl, br, lo, tl, a1, a2, a3, a4, a5, a6, a7, a8, a9, a10, a11, a12, a13, a14, a15, a16, a17, a18, a19, a20, a21, a22, a23, a24, a25))
    (Hs : ∀ (k : Nat) (a1 a2 : Nat → Int32) (RS : Nat → Nat) (R : Nat → Nat → Nat), ¬ p0 < 0 → p0 < 6 → gw_sI 4 p1 = some k → gw_P RS R a1 a2 → (k = 1 → p1 = p0 + 1 → gw_plain RS R) → post (nI k) (fs, 0, 0, ps, px, py, pt, xl, xh, yl, yh, fl, fr, bl, br, lo, tl, a1, a2, a3, a4, a5, a6, a7, a8, a9, a10, a11, a12, a13, a14, a15, a16, a17, a18, a19, a20, a21, a22, a23, a24, a25)) :
    wpX_rule post (fs, kn, pn, ps, px, py, pt, xl, xh, yl, yh, fl, fr, bl, br, lo, tl, a1, a2, a3, a4, a5, a6, a7, a8, a9, a10, a11, a12, a13, a14, a15, a16, a17, a18, a19, a20, a21, a22, a23, a24, a25) p0 p1 := by
  refine br_c (fun z => Hn (Or.inl z)) (fun z0 => br_c (fun z6 => gw_sizeOf' 4 (by omega) (fun hs => br_f (by decide) (Hm z0 z6 hs)) (fun k hk hs => br_t (nI_pos' (by omega)) ?_)) (fun z6 => Hn (Or.inr z6)))
  obtain ⟨c, hc, rfl⟩ := gw_six z0 z6
  obtain ⟨w, hw, rfl, _, hd, he⟩ := gw_sI_some hs
  refine gw_rule_31 hc hk hw hd (fun s s1 s2 => Hs k _ s (fun d => if d = c then k else 1) (fun d i => if d = c then w / 7 ^ i % 7 - 1 else d) z0 z6 hs ⟨fun d h => ?_, fun d i h hi => ?_⟩ ?_)
  · dsimp only
    rw [nI_clamp (show c < 2 ^ 31 by omega)]
    by_cases e : d = c
    · rw [if_pos e, e, pk_us]; exact ⟨hk, rfl⟩
    · rw [if_neg e, pk_un e]; exact ⟨by omega, K1 d h⟩
  · dsimp only at hi ⊢
    by_cases e : d = c
    · rw [if_pos e] at hi ⊢
      rw [e]
      have := hd i hi
      exact ⟨by omega, s1 i hi⟩
    · rw [if_neg e] at hi ⊢
      rw [s2 (4 * d + i) (by omega), show i = 0 by omega]
      exact ⟨h, K2 d h⟩
  · intro k1 hp d h
    dsimp only
    by_cases e : d = c
    · rw [if_pos e, if_pos e]
      have hp' : nI w = nI (c + 1) := by rw [hp, nI_1]
      have hw' : w = c + 1 := (nI_eq hw (by omega)).mp hp'
      refine ⟨k1, ?_⟩
      rw [hw', e]
      simp only [Nat.pow_zero, Nat.div_one]
      omega
    · rw [if_neg e, if_neg e]; exact ⟨rfl, rfl⟩
theorem gw_begin_19 {post : Int32 → St2 → Prop} {fs kn pn ps px py pt xl xh yl yh fl fr bl br lo tl : Int32} {a1 a2 a3 a4 a5 a6 a7 a8 a9 a10 a11 a12 a13 a14 a15 a16 a17 a18 a19 a20 a21 a22 a23 a24 a25 : Nat → Int32} {k w : Nat} (hk : k ≤ 8) (hw : w < 2 ^ 31) (hd : ∀ j, j < k → w / 7 ^ j % 7 ≠ 0)
    (H : ∀ s : Nat → Int32, (∀ j, j < k → s j = nI (w / 7 ^ j % 7 - 1)) → post (nI k) (nI k, kn, pn, ps, px, py, pt, xl, xh, yl, yh, fl, fr, bl, br, lo, tl, a1, a2, s, a4, a5, a6, a7, a8, a9, a10, a11, a12, a13, a14, a15, a16, a17, a18, a19, a20, a21, a22, a23, a24, a25)) :
    ∃ n, wX_begin_19 post (nI k) fs kn pn ps px py pt xl xh yl yh fl fr bl br lo tl n (nI w) 0 a1 a2 a3 a4 a5 a6 a7 a8 a9 a10 a11 a12 a13 a14 a15 a16 a17 a18 a19 a20 a21 a22 a23 a24 a25 := by
  refine pk_loop (fun n i s => wX_begin_19 post (nI k) fs kn pn ps px py pt xl xh yl yh fl fr bl br lo tl n (nI s.1) (nI i) a1 a2 s.2 a4 a5 a6 a7 a8 a9 a10 a11 a12 a13 a14 a15 a16 a17 a18 a19 a20 a21 a22 a23 a24 a25)
    (fun i s => s.1 = w / 7 ^ i ∧ (∀ j, j < i → s.2 j = nI (w / 7 ^ j % 7 - 1))) k 0 ((w, a3) : Nat × (Nat → Int32)) (by omega)
    ⟨by simp, fun j z => absurd z (by omega)⟩ ?_ ?_
  · intro n s h
    exact pk_le k k (fun _ => H s.2 h.2) (fun z => absurd z (by omega))
  · intro n i s hi h hn
    obtain ⟨v, s⟩ := s
    obtain ⟨h1, h2⟩ := h
    dsimp only at h1 h2
    have hv : v < 2 ^ 31 := by rw [h1]; exact Nat.lt_of_le_of_lt (Nat.div_le_self _ _) hw
    have hv7 : v % 7 ≠ 0 := by rw [h1]; exact hd i hi
    refine pk_le k i (fun z => absurd z (by omega)) (fun _ => ⟨by decide, pk_in i 8 (by omega), nm_e ⟨by decide, nm_r (gw_div7 hv) (nm_r (nI_1 i) (hn (v / 7, upd s (nI i).toNatClampNeg (nI v - nI v / 7 * 7 - 1)) ⟨?_, ?_⟩))⟩⟩)
    · show v / 7 = w / 7 ^ (i + 1)
      rw [gw_dv', h1]
    · intro j hj
      show upd s (nI i).toNatClampNeg (nI v - nI v / 7 * 7 - 1) j = _
      rw [nI_clamp (show i < 2 ^ 31 by omega), gw_let hv hv7]
      by_cases e : j = i
      · rw [e, pk_us, h1]
      · rw [pk_un e]; exact h2 j (by omega)
/-- the first word's letters, as the law reads them -/
def gw_W (x : Int32) (i : Nat) : Nat := x.toNatClampNeg / 7 ^ i % 7 - 1
theorem gw_begin {post : Int32 → St2 → Prop} {fs kn pn ps px py pt xl xh yl yh fl fr bl br lo tl : Int32} {a1 a2 a3 a4 a5 a6 a7 a8 a9 a10 a11 a12 a13 a14 a15 a16 a17 a18 a19 a20 a21 a22 a23 a24 a25 : Nat → Int32} {p0 : Int32}
    (Hn : (∀ k, gw_sI 8 p0 = some k → k = 0) → post (-1) (fs, kn, pn, ps, px, py, pt, xl, xh, yl, yh, fl, fr, bl, br, lo, tl, a1, a2, a3, a4, a5, a6, a7, a8, a9, a10, a11, a12, a13, a14, a15, a16, a17, a18, a19, a20, a21, a22, a23, a24, a25))
    (Hs : ∀ (k : Nat) (a3 : Nat → Int32), gw_sI 8 p0 = some k → gw_F k (gw_W p0) a3 → post (nI k) (nI k, kn, pn, ps, px, py, pt, xl, xh, yl, yh, fl, fr, bl, br, lo, tl, a1, a2, a3, a4, a5, a6, a7, a8, a9, a10, a11, a12, a13, a14, a15, a16, a17, a18, a19, a20, a21, a22, a23, a24, a25)) :
    wpX_begin post (fs, kn, pn, ps, px, py, pt, xl, xh, yl, yh, fl, fr, bl, br, lo, tl, a1, a2, a3, a4, a5, a6, a7, a8, a9, a10, a11, a12, a13, a14, a15, a16, a17, a18, a19, a20, a21, a22, a23, a24, a25) p0 := by
  refine gw_sizeOf' 8 (by omega) (fun hs => br_f (by decide) (Hn (fun k h => by rw [hs] at h; exact absurd h (by simp)))) (fun k hk hs => ?_)
  refine pk_le 1 k (fun k1 => ?_) (fun k1 => Hn (fun q h => by rw [hs] at h; have := Option.some.inj h; omega))
  obtain ⟨w, hw, rfl, _, hd, he⟩ := gw_sI_some hs
  refine gw_begin_19 hk hw hd (fun s h => Hs k s hs ⟨k1, hk, fun i hi => ?_⟩)
  unfold gw_W
  rw [nI_clamp hw]
  have := hd i hi
  exact ⟨by omega, h i hi⟩
theorem gw_action {post : Int32 → St2 → Prop} {fs kn pn ps px py pt xl xh yl yh fl fr bl br lo tl : Int32} {a1 a2 a3 a4 a5 a6 a7 a8 a9 a10 a11 a12 a13 a14 a15 a16 a17 a18 a19 a20 a21 a22 a23 a24 a25 : Nat → Int32} {p0 p1 : Int32} (K : ∀ c, c < 6 → a4 c = 0)
    (Hn : (p0 < 0 ∨ ¬ p0 < 6) → post (-1) (fs, kn, pn, ps, px, py, pt, xl, xh, yl, yh, fl, fr, bl, br, lo, tl, a1, a2, a3, a4, a5, a6, a7, a8, a9, a10, a11, a12, a13, a14, a15, a16, a17, a18, a19, a20, a21, a22, a23, a24, a25))
    (Hm : ¬ p0 < 0 → p0 < 6 → (p1 < 0 ∨ ¬ p1 ≤ 3) → post (-2) (fs, kn, pn, ps, px, py, pt, xl, xh, yl, yh, fl, fr, bl, br, lo, tl, a1, a2, a3, a4, a5, a6, a7, a8, a9, a10, a11, a12, a13, a14, a15, a16, a17, a18, a19, a20, a21, a22, a23, a24, a25))
    (Hs : ∀ (a4 : Nat → Int32), ¬ p0 < 0 → p0 < 6 → ¬ p1 < 0 → p1 ≤ 3 → post 0 (fs, 0, 0, ps, px, py, pt, xl, xh, yl, yh, fl, fr, bl, br, lo, tl, a1, a2, a3, a4, a5, a6, a7, a8, a9, a10, a11, a12, a13, a14, a15, a16, a17, a18, a19, a20, a21, a22, a23, a24, a25)) :
    wpX_action post (fs, kn, pn, ps, px, py, pt, xl, xh, yl, yh, fl, fr, bl, br, lo, tl, a1, a2, a3, a4, a5, a6, a7, a8, a9, a10, a11, a12, a13, a14, a15, a16, a17, a18, a19, a20, a21, a22, a23, a24, a25) p0 p1 := by
  refine br_c (fun z => Hn (Or.inl z)) (fun z0 => br_c (fun z6 => br_c (fun y0 => Hm z0 z6 (Or.inl y0)) (fun y0 => br_c (fun y3 => ?_) (fun y3 => Hm z0 z6 (Or.inr y3)))) (fun z6 => Hn (Or.inr z6)))
  obtain ⟨c, hc, rfl⟩ := gw_six z0 z6
  refine ⟨pk_in c 6 hc, nm_r (e' := (0 : Int32)) (by rw [nI_clamp (show c < 2 ^ 31 by omega)]; exact K c hc) ⟨pk_in c 6 hc, nm_e (Hs _ z0 z6 y0 y3)⟩⟩
end
section
theorem gw_turnedX {post : Int32 → Prop} {p0 p1 p2 : Int32} (H : ∀ r, post r) : wpX_turnedX post () p0 p1 p2 :=
  br_c (fun _ => H _) (fun _ => br_c (fun _ => H _) (fun _ => br_c (fun _ => H _) (fun _ => br_c (fun _ => H _) (fun _ => br_c (fun _ => H _) (fun _ => trivial)))))
theorem gw_turnedY {post : Int32 → Prop} {p0 p1 p2 : Int32} (H : ∀ r, post r) : wpX_turnedY post () p0 p1 p2 :=
  br_c (fun _ => H _) (fun _ => br_c (fun _ => H _) (fun _ => br_c (fun _ => H _) (fun _ => br_c (fun _ => H _) (fun _ => br_c (fun _ => H _) (fun _ => trivial)))))
theorem gw_reach_57 {post : St2 → Prop} {x2 z0 : Int32} {fs kn pn ps px py pt xl xh yl yh fl fr bl br lo tl : Int32} {a1 a2 a3 a4 a5 a6 a7 a8 a9 a10 a11 a12 a13 a14 a15 a16 a17 a18 a19 a20 a21 a22 a23 a24 a25 : Nat → Int32} (H : ∀ (xl xh yl yh : Int32), post (fs, kn, pn, ps, px, py, pt, xl, xh, yl, yh, fl, fr, bl, br, lo, tl, a1, a2, a3, a4, a5, a6, a7, a8, a9, a10, a11, a12, a13, a14, a15, a16, a17, a18, a19, a20, a21, a22, a23, a24, a25)) : wX_reach_57 post x2 z0 fs kn pn ps px py pt xl xh yl yh fl fr bl br lo tl a1 a2 a3 a4 a5 a6 a7 a8 a9 a10 a11 a12 a13 a14 a15 a16 a17 a18 a19 a20 a21 a22 a23 a24 a25 :=
  br_c (fun _ => H _ _ _ _) (fun _ => H _ _ _ _)
theorem gw_reach_37 {post : St2 → Prop} {x2 z0 : Int32} {fs kn pn ps px py pt xl xh yl yh fl fr bl br lo tl : Int32} {a1 a2 a3 a4 a5 a6 a7 a8 a9 a10 a11 a12 a13 a14 a15 a16 a17 a18 a19 a20 a21 a22 a23 a24 a25 : Nat → Int32} (H : ∀ (xl xh yl yh : Int32), post (fs, kn, pn, ps, px, py, pt, xl, xh, yl, yh, fl, fr, bl, br, lo, tl, a1, a2, a3, a4, a5, a6, a7, a8, a9, a10, a11, a12, a13, a14, a15, a16, a17, a18, a19, a20, a21, a22, a23, a24, a25)) : wX_reach_37 post x2 z0 fs kn pn ps px py pt xl xh yl yh fl fr bl br lo tl a1 a2 a3 a4 a5 a6 a7 a8 a9 a10 a11 a12 a13 a14 a15 a16 a17 a18 a19 a20 a21 a22 a23 a24 a25 :=
  br_c (fun _ => gw_reach_57 H) (fun _ => gw_reach_57 H)
theorem gw_reach_17 {post : St2 → Prop} {x1 x2 z0 : Int32} {fs kn pn ps px py pt xl xh yl yh fl fr bl br lo tl : Int32} {a1 a2 a3 a4 a5 a6 a7 a8 a9 a10 a11 a12 a13 a14 a15 a16 a17 a18 a19 a20 a21 a22 a23 a24 a25 : Nat → Int32} (H : ∀ (xl xh yl yh : Int32), post (fs, kn, pn, ps, px, py, pt, xl, xh, yl, yh, fl, fr, bl, br, lo, tl, a1, a2, a3, a4, a5, a6, a7, a8, a9, a10, a11, a12, a13, a14, a15, a16, a17, a18, a19, a20, a21, a22, a23, a24, a25)) : wX_reach_17 post x1 x2 z0 fs kn pn ps px py pt xl xh yl yh fl fr bl br lo tl a1 a2 a3 a4 a5 a6 a7 a8 a9 a10 a11 a12 a13 a14 a15 a16 a17 a18 a19 a20 a21 a22 a23 a24 a25 :=
  br_c (fun _ => gw_reach_37 H) (fun _ => gw_reach_37 H)
theorem gw_reach {post : St2 → Prop} {p0 p1 : Int32} {fs kn pn ps px py pt xl xh yl yh fl fr bl br lo tl : Int32} {a1 a2 a3 a4 a5 a6 a7 a8 a9 a10 a11 a12 a13 a14 a15 a16 a17 a18 a19 a20 a21 a22 a23 a24 a25 : Nat → Int32} (H : ∀ (xl xh yl yh : Int32), post (fs, kn, pn, ps, px, py, pt, xl, xh, yl, yh, fl, fr, bl, br, lo, tl, a1, a2, a3, a4, a5, a6, a7, a8, a9, a10, a11, a12, a13, a14, a15, a16, a17, a18, a19, a20, a21, a22, a23, a24, a25)) : wpX_reach post (fs, kn, pn, ps, px, py, pt, xl, xh, yl, yh, fl, fr, bl, br, lo, tl, a1, a2, a3, a4, a5, a6, a7, a8, a9, a10, a11, a12, a13, a14, a15, a16, a17, a18, a19, a20, a21, a22, a23, a24, a25) p0 p1 :=
  br_c (fun _ => gw_reach_17 H) (fun _ => gw_reach_17 H)
theorem gw_drawForm {post : St2 → Prop} {p0 : Int32} {fs kn pn ps px py pt xl xh yl yh fl fr bl br lo tl : Int32} {a1 a2 a3 a4 a5 a6 a7 a8 a9 a10 a11 a12 a13 a14 a15 a16 a17 a18 a19 a20 a21 a22 a23 a24 a25 : Nat → Int32} (h : vp_in p0 78) (H : ∀ (px py pt xl xh yl yh : Int32), post (fs, kn, pn, ps, px, py, pt, xl, xh, yl, yh, fl, fr, bl, br, lo, tl, a1, a2, a3, a4, a5, a6, a7, a8, a9, a10, a11, a12, a13, a14, a15, a16, a17, a18, a19, a20, a21, a22, a23, a24, a25)) : wpX_drawForm post (fs, kn, pn, ps, px, py, pt, xl, xh, yl, yh, fl, fr, bl, br, lo, tl, a1, a2, a3, a4, a5, a6, a7, a8, a9, a10, a11, a12, a13, a14, a15, a16, a17, a18, a19, a20, a21, a22, a23, a24, a25) p0 := by
  unfold wpX_drawForm
  refine And.intro h (And.intro h (gw_turnedX (fun r3 x2 _ => And.intro h (And.intro h (gw_turnedY (fun r7 x3 _ => And.intro h (And.intro h (gw_turnedX (fun r11 x4 _ => And.intro h (And.intro h (gw_turnedY (fun r15 x5 _ => ?_))))))))))))
  refine gw_reach (fun xl xh yl yh => ?_)
  refine gw_reach (fun xl xh yl yh => ?_)
  refine And.intro h (And.intro h (gw_turnedX (fun r3 x2 _ => And.intro h (And.intro h (gw_turnedY (fun r7 x3 _ => And.intro h (fun f _ => ?_)))))))
  exact H _ _ _ _ _ _ _
theorem gw_jr_226 {post : St2 → Prop} {x1 z0 TL : Int32} {fs kn pn ps px py pt xl xh yl yh fl fr bl br lo : Int32} {a1 a2 a3 a4 a5 a6 a7 a8 a9 a10 a11 a12 a13 a14 a15 a16 a17 a18 a19 a20 a21 a22 a23 a24 a25 : Nat → Int32} (h : vp_in x1 78) (H : ∀ (fl fr bl br lo tl : Int32), tl = TL + a5 x1.toNatClampNeg → post (fs, kn, pn, ps, px, py, pt, xl, xh, yl, yh, fl, fr, bl, br, lo, tl, a1, a2, a3, a4, a5, a6, a7, a8, a9, a10, a11, a12, a13, a14, a15, a16, a17, a18, a19, a20, a21, a22, a23, a24, a25)) : wX_joinRuns_226 post x1 z0 fs kn pn ps px py pt xl xh yl yh fl fr bl br lo TL a1 a2 a3 a4 a5 a6 a7 a8 a9 a10 a11 a12 a13 a14 a15 a16 a17 a18 a19 a20 a21 a22 a23 a24 a25 :=
  And.intro h (fun f e => H _ _ _ _ _ f e)
theorem gw_jr_196 {post : St2 → Prop} {x1 z0 TL : Int32} {fs kn pn ps px py pt xl xh yl yh fl fr bl br lo : Int32} {a1 a2 a3 a4 a5 a6 a7 a8 a9 a10 a11 a12 a13 a14 a15 a16 a17 a18 a19 a20 a21 a22 a23 a24 a25 : Nat → Int32} (h : vp_in x1 78) (H : ∀ (fl fr bl br lo tl : Int32), tl = TL + a5 x1.toNatClampNeg → post (fs, kn, pn, ps, px, py, pt, xl, xh, yl, yh, fl, fr, bl, br, lo, tl, a1, a2, a3, a4, a5, a6, a7, a8, a9, a10, a11, a12, a13, a14, a15, a16, a17, a18, a19, a20, a21, a22, a23, a24, a25)) : wX_joinRuns_196 post x1 z0 fs kn pn ps px py pt xl xh yl yh fl fr bl br lo TL a1 a2 a3 a4 a5 a6 a7 a8 a9 a10 a11 a12 a13 a14 a15 a16 a17 a18 a19 a20 a21 a22 a23 a24 a25 :=
  And.intro h (br_c (fun _ => gw_jr_226 h H) (fun _ => And.intro h (gw_jr_226 h H)))
theorem gw_jr_166 {post : St2 → Prop} {x1 x3 z0 TL : Int32} {fs kn pn ps px py pt xl xh yl yh fl fr bl br lo : Int32} {a1 a2 a3 a4 a5 a6 a7 a8 a9 a10 a11 a12 a13 a14 a15 a16 a17 a18 a19 a20 a21 a22 a23 a24 a25 : Nat → Int32} (h : vp_in x1 78) (H : ∀ (fl fr bl br lo tl : Int32), tl = TL + a5 x1.toNatClampNeg → post (fs, kn, pn, ps, px, py, pt, xl, xh, yl, yh, fl, fr, bl, br, lo, tl, a1, a2, a3, a4, a5, a6, a7, a8, a9, a10, a11, a12, a13, a14, a15, a16, a17, a18, a19, a20, a21, a22, a23, a24, a25)) : wX_joinRuns_166 post x1 x3 z0 fs kn pn ps px py pt xl xh yl yh fl fr bl br lo TL a1 a2 a3 a4 a5 a6 a7 a8 a9 a10 a11 a12 a13 a14 a15 a16 a17 a18 a19 a20 a21 a22 a23 a24 a25 :=
  And.intro h (fun f _ => br_c (fun _ => gw_jr_196 h H) (fun _ => gw_jr_196 h H))
theorem gw_jr_160 {post : St2 → Prop} {x1 x3 TL : Int32} {fs kn pn ps px py pt xl xh yl yh fl fr bl br lo : Int32} {a1 a2 a3 a4 a5 a6 a7 a8 a9 a10 a11 a12 a13 a14 a15 a16 a17 a18 a19 a20 a21 a22 a23 a24 a25 : Nat → Int32} (h : vp_in x1 78) (H : ∀ (fl fr bl br lo tl : Int32), tl = TL + a5 x1.toNatClampNeg → post (fs, kn, pn, ps, px, py, pt, xl, xh, yl, yh, fl, fr, bl, br, lo, tl, a1, a2, a3, a4, a5, a6, a7, a8, a9, a10, a11, a12, a13, a14, a15, a16, a17, a18, a19, a20, a21, a22, a23, a24, a25)) : wX_joinRuns_160 post x1 x3 fs kn pn ps px py pt xl xh yl yh fl fr bl br lo TL a1 a2 a3 a4 a5 a6 a7 a8 a9 a10 a11 a12 a13 a14 a15 a16 a17 a18 a19 a20 a21 a22 a23 a24 a25 :=
  And.intro h (gw_jr_166 h H)
theorem gw_jr_134 {post : St2 → Prop} {x1 x2 x3 z0 TL : Int32} {fs kn pn ps px py pt xl xh yl yh fl fr bl br lo : Int32} {a1 a2 a3 a4 a5 a6 a7 a8 a9 a10 a11 a12 a13 a14 a15 a16 a17 a18 a19 a20 a21 a22 a23 a24 a25 : Nat → Int32} (h : vp_in x1 78) (H : ∀ (fl fr bl br lo tl : Int32), tl = TL + a5 x1.toNatClampNeg → post (fs, kn, pn, ps, px, py, pt, xl, xh, yl, yh, fl, fr, bl, br, lo, tl, a1, a2, a3, a4, a5, a6, a7, a8, a9, a10, a11, a12, a13, a14, a15, a16, a17, a18, a19, a20, a21, a22, a23, a24, a25)) : wX_joinRuns_134 post x1 x2 x3 z0 fs kn pn ps px py pt xl xh yl yh fl fr bl br lo TL a1 a2 a3 a4 a5 a6 a7 a8 a9 a10 a11 a12 a13 a14 a15 a16 a17 a18 a19 a20 a21 a22 a23 a24 a25 :=
  br_c (fun _ => gw_jr_160 h H) (fun _ => br_c (fun _ => gw_jr_160 h H) (fun _ => And.intro h (gw_jr_166 h H)))
theorem gw_jr_114 {post : St2 → Prop} {x1 x2 x3 TL : Int32} {fs kn pn ps px py pt xl xh yl yh fl fr bl br lo : Int32} {a1 a2 a3 a4 a5 a6 a7 a8 a9 a10 a11 a12 a13 a14 a15 a16 a17 a18 a19 a20 a21 a22 a23 a24 a25 : Nat → Int32} (h : vp_in x1 78) (H : ∀ (fl fr bl br lo tl : Int32), tl = TL + a5 x1.toNatClampNeg → post (fs, kn, pn, ps, px, py, pt, xl, xh, yl, yh, fl, fr, bl, br, lo, tl, a1, a2, a3, a4, a5, a6, a7, a8, a9, a10, a11, a12, a13, a14, a15, a16, a17, a18, a19, a20, a21, a22, a23, a24, a25)) : wX_joinRuns_114 post x1 x2 x3 fs kn pn ps px py pt xl xh yl yh fl fr bl br lo TL a1 a2 a3 a4 a5 a6 a7 a8 a9 a10 a11 a12 a13 a14 a15 a16 a17 a18 a19 a20 a21 a22 a23 a24 a25 :=
  And.intro h (And.intro h (br_c (fun _ => gw_jr_134 h H) (fun _ => gw_jr_134 h H)))
theorem gw_jr_53 {post : St2 → Prop} {x1 x2 z0 TL : Int32} {fs kn pn ps px py pt xl xh yl yh fl fr bl br lo : Int32} {a1 a2 a3 a4 a5 a6 a7 a8 a9 a10 a11 a12 a13 a14 a15 a16 a17 a18 a19 a20 a21 a22 a23 a24 a25 : Nat → Int32} (h : vp_in x1 78) (H : ∀ (fl fr bl br lo tl : Int32), tl = TL + a5 x1.toNatClampNeg → post (fs, kn, pn, ps, px, py, pt, xl, xh, yl, yh, fl, fr, bl, br, lo, tl, a1, a2, a3, a4, a5, a6, a7, a8, a9, a10, a11, a12, a13, a14, a15, a16, a17, a18, a19, a20, a21, a22, a23, a24, a25)) : wX_joinRuns_53 post x1 x2 z0 fs kn pn ps px py pt xl xh yl yh fl fr bl br lo TL a1 a2 a3 a4 a5 a6 a7 a8 a9 a10 a11 a12 a13 a14 a15 a16 a17 a18 a19 a20 a21 a22 a23 a24 a25 :=
  br_c (fun _ => And.intro h (fun f _ => And.intro h (fun f' _ => gw_jr_114 h H))) (fun _ => br_c (fun _ => br_c (fun _ => gw_jr_114 h H) (fun _ => And.intro h (fun f _ => gw_jr_114 h H))) (fun _ => gw_jr_114 h H))
theorem gw_jr_28 {post : St2 → Prop} {x1 z0 TL : Int32} {fs kn pn ps px py pt xl xh yl yh fl fr bl br lo : Int32} {a1 a2 a3 a4 a5 a6 a7 a8 a9 a10 a11 a12 a13 a14 a15 a16 a17 a18 a19 a20 a21 a22 a23 a24 a25 : Nat → Int32} (h : vp_in x1 78) (H : ∀ (fl fr bl br lo tl : Int32), tl = TL + a5 x1.toNatClampNeg → post (fs, kn, pn, ps, px, py, pt, xl, xh, yl, yh, fl, fr, bl, br, lo, tl, a1, a2, a3, a4, a5, a6, a7, a8, a9, a10, a11, a12, a13, a14, a15, a16, a17, a18, a19, a20, a21, a22, a23, a24, a25)) : wX_joinRuns_28 post x1 z0 fs kn pn ps px py pt xl xh yl yh fl fr bl br lo TL a1 a2 a3 a4 a5 a6 a7 a8 a9 a10 a11 a12 a13 a14 a15 a16 a17 a18 a19 a20 a21 a22 a23 a24 a25 :=
  br_c (fun _ => And.intro h (gw_jr_53 h H)) (fun _ => And.intro h (gw_jr_53 h H))
theorem gw_joinRuns {post : St2 → Prop} {p0 TL : Int32} {fs kn pn ps px py pt xl xh yl yh fl fr bl br lo : Int32} {a1 a2 a3 a4 a5 a6 a7 a8 a9 a10 a11 a12 a13 a14 a15 a16 a17 a18 a19 a20 a21 a22 a23 a24 a25 : Nat → Int32} (h : vp_in p0 78) (H : ∀ (fl fr bl br lo tl : Int32), tl = TL + a5 p0.toNatClampNeg → post (fs, kn, pn, ps, px, py, pt, xl, xh, yl, yh, fl, fr, bl, br, lo, tl, a1, a2, a3, a4, a5, a6, a7, a8, a9, a10, a11, a12, a13, a14, a15, a16, a17, a18, a19, a20, a21, a22, a23, a24, a25)) : wpX_joinRuns post (fs, kn, pn, ps, px, py, pt, xl, xh, yl, yh, fl, fr, bl, br, lo, TL, a1, a2, a3, a4, a5, a6, a7, a8, a9, a10, a11, a12, a13, a14, a15, a16, a17, a18, a19, a20, a21, a22, a23, a24, a25) p0 := by
  unfold wpX_joinRuns
  refine And.intro h (br_c (fun z => H _ _ _ _ _ _ ?_) (fun _ => And.intro h (br_c (fun _ => gw_jr_28 h H) (fun _ => gw_jr_28 h H))))
  rw [z, Int32.add_zero]
theorem gw_addNumbers {post : St2 → Prop} {fs kn pn ps px py pt xl xh yl yh fl fr bl br lo tl : Int32} {a1 a2 a3 a4 a5 a6 a7 a8 a9 a10 a11 a12 a13 a14 a15 a16 a17 a18 a19 a20 a21 a22 a23 a24 a25 : Nat → Int32} {f p : Nat} (hf : f < 78) (hp : p < 78) (H : ∀ (a6 : Nat → Int32), post (fs, kn, pn, ps, px, py, pt, xl, xh, yl, yh, fl, fr, bl, br, lo, tl, a1, a2, a3, a4, a5, a6, a7, a8, a9, a10, a11, a12, a13, a14, a15, a16, a17, a18, a19, a20, a21, a22, a23, a24, a25)) : wpX_addNumbers post (fs, kn, pn, ps, px, py, pt, xl, xh, yl, yh, fl, fr, bl, br, lo, tl, a1, a2, a3, a4, a5, a6, a7, a8, a9, a10, a11, a12, a13, a14, a15, a16, a17, a18, a19, a20, a21, a22, a23, a24, a25) (nI f) (nI p) :=
  pk_loop (fun n i s => wX_addNumbers_2 post (nI f) (nI p) fs kn pn ps px py pt xl xh yl yh fl fr bl br lo tl n (nI i) a1 a2 a3 a4 a5 s a7 a8 a9 a10 a11 a12 a13 a14 a15 a16 a17 a18 a19 a20 a21 a22 a23 a24 a25) (fun _ _ => True) 6 0 a6 (by omega) trivial
    (fun n s _ => pk_le 6 6 (fun _ => H s) (fun z => absurd z (by omega)))
    (fun n i s hi _ hk => pk_le 6 i (fun z => absurd z (by omega)) (fun _ => ⟨pk_in (6 * f + i) 468 (by omega) (gw_i6 f i), pk_in (6 * p + i) 468 (by omega) (gw_i6 p i), pk_in (6 * f + i) 468 (by omega) (gw_i6 f i), nm_e (nm_r (nI_1 i) (hk _ trivial))⟩))
end
section
theorem gw_form {post : Int32 → Prop} {x y : Int32} (a b : Nat) (h : post (nI (13 * a + b))) (hx : x = nI a := by rfl) (hy : y = nI b := by rfl) : wpX_form post () x y := by
  subst hx hy
  unfold wpX_form
  rw [gw_i13]
  exact h
theorem gw_ll_110 {post : St2 → Prop} {x1 x2 z0 : Int32} {fs kn pn ps px py pt xl xh yl yh fl fr bl br lo tl : Int32} {a1 a2 a3 a4 a5 a6 a7 a8 a9 a10 a11 a12 a13 a14 a15 a16 a17 a18 a19 a20 a21 a22 a23 a24 a25 : Nat → Int32} (h : vp_in x2 78) (H : ∀ (a7 a8 a9 a10 a11 a12 a13 a14 a15 a16 a17 a18 : Nat → Int32), post (fs, kn, pn, ps, px, py, pt, xl, xh, yl, yh, fl, fr, bl, br, lo, tl, a1, a2, a3, a4, a5, a6, a7, a8, a9, a10, a11, a12, a13, a14, a15, a16, a17, a18, a19, a20, a21, a22, a23, a24, a25)) : wX_layLetter_110 post x1 x2 z0 x2 fs kn pn ps px py pt xl xh yl yh fl fr bl br lo tl a1 a2 a3 a4 a5 a6 a7 a8 a9 a10 a11 a12 a13 a14 a15 a16 a17 a18 a19 a20 a21 a22 a23 a24 a25 :=
  And.intro h (fun a9 _ => And.intro h (fun a10 _ => And.intro h (And.intro h (fun a11 _ => And.intro h (fun a12 _ => And.intro h (fun a13 _ => And.intro h (fun a14 _ => And.intro h (fun a15 _ => And.intro h (fun a16 _ => And.intro h (fun a17 _ => And.intro h (fun a18 _ => H a7 a8 a9 a10 a11 a12 a13 a14 a15 a16 a17 a18)))))))))))
theorem gw_ll_68 {post : St2 → Prop} {x1 x2 z0 : Int32} {fs kn pn ps px py pt xl xh yl yh fl fr bl br lo tl : Int32} {a1 a2 a3 a4 a5 a6 a7 a8 a9 a10 a11 a12 a13 a14 a15 a16 a17 a18 a19 a20 a21 a22 a23 a24 a25 : Nat → Int32} (h1 : vp_in x1 6) (h : vp_in x2 78) (H : ∀ (a7 a8 a9 a10 a11 a12 a13 a14 a15 a16 a17 a18 : Nat → Int32), post (fs, kn, pn, ps, px, py, pt, xl, xh, yl, yh, fl, fr, bl, br, lo, tl, a1, a2, a3, a4, a5, a6, a7, a8, a9, a10, a11, a12, a13, a14, a15, a16, a17, a18, a19, a20, a21, a22, a23, a24, a25)) : wX_layLetter_68 post x1 x2 z0 x2 fs kn pn ps px py pt xl xh yl yh fl fr bl br lo tl a1 a2 a3 a4 a5 a6 a7 a8 a9 a10 a11 a12 a13 a14 a15 a16 a17 a18 a19 a20 a21 a22 a23 a24 a25 :=
  And.intro h (fun a7 _ => And.intro h (fun a8 _ => And.intro h1 (br_c (fun _ => gw_ll_110 h H) (fun _ => And.intro h1 (br_c (fun _ => gw_ll_110 h H) (fun _ => gw_ll_110 h H))))))
theorem gw_ll_15 {post : St2 → Prop} {c f : Nat} {fs kn pn ps px py pt xl xh yl yh fl fr bl br lo tl : Int32} {a1 a2 a3 a4 a5 a6 a7 a8 a9 a10 a11 a12 a13 a14 a15 a16 a17 a18 a19 a20 a21 a22 a23 a24 a25 : Nat → Int32} (hc : c < 6) (hf : f < 78) (H : ∀ (a6 a7 a8 a9 a10 a11 a12 a13 a14 a15 a16 a17 a18 : Nat → Int32), post (fs, kn, pn, ps, px, py, pt, xl, xh, yl, yh, fl, fr, bl, br, lo, tl, a1, a2, a3, a4, a5, a6, a7, a8, a9, a10, a11, a12, a13, a14, a15, a16, a17, a18, a19, a20, a21, a22, a23, a24, a25)) : ∃ n, wX_layLetter_15 post (nI c) (nI f) fs kn pn ps px py pt xl xh yl yh fl fr bl br lo tl n 0 a1 a2 a3 a4 a5 a6 a7 a8 a9 a10 a11 a12 a13 a14 a15 a16 a17 a18 a19 a20 a21 a22 a23 a24 a25 :=
  pk_loop (fun n i s => wX_layLetter_15 post (nI c) (nI f) fs kn pn ps px py pt xl xh yl yh fl fr bl br lo tl n (nI i) a1 a2 a3 a4 a5 s a7 a8 a9 a10 a11 a12 a13 a14 a15 a16 a17 a18 a19 a20 a21 a22 a23 a24 a25) (fun _ _ => True) 6 0 a6 (by omega) trivial
    (fun n s _ => pk_le 6 6 (fun _ => And.intro (pk_in c 6 hc) (br_c (fun _ => gw_ll_68 (pk_in c 6 hc) (pk_in f 78 hf) (H s)) (fun _ => gw_ll_68 (pk_in c 6 hc) (pk_in f 78 hf) (H s)))) (fun z => absurd z (by omega)))
    (fun n i s hi _ hk => pk_le 6 i (fun z => absurd z (by omega)) (fun _ => br_c (fun _ => ⟨pk_in (6 * f + i) 468 (by omega) (gw_i6 f i), nm_e (nm_r (nI_1 i) (hk _ trivial))⟩) (fun _ => ⟨pk_in (6 * f + i) 468 (by omega) (gw_i6 f i), nm_e (nm_r (nI_1 i) (hk _ trivial))⟩)))
theorem gw_layLetter {post : St2 → Prop} {c : Nat} {fs kn pn ps px py pt xl xh yl yh fl fr bl br lo tl : Int32} {a1 a2 a3 a4 a5 a6 a7 a8 a9 a10 a11 a12 a13 a14 a15 a16 a17 a18 a19 a20 a21 a22 a23 a24 a25 : Nat → Int32} (hc : c < 6) (H : ∀ (a6 a7 a8 a9 a10 a11 a12 a13 a14 a15 a16 a17 a18 : Nat → Int32), post (fs, kn, pn, ps, px, py, pt, xl, xh, yl, yh, fl, fr, bl, br, lo, tl, a1, a2, a3, a4, upd a5 (13 * c) (nI 1), a6, a7, a8, a9, a10, a11, a12, a13, a14, a15, a16, a17, a18, a19, a20, a21, a22, a23, a24, a25)) : wpX_layLetter post (fs, kn, pn, ps, px, py, pt, xl, xh, yl, yh, fl, fr, bl, br, lo, tl, a1, a2, a3, a4, a5, a6, a7, a8, a9, a10, a11, a12, a13, a14, a15, a16, a17, a18, a19, a20, a21, a22, a23, a24, a25) (nI c) := by
  unfold wpX_layLetter
  refine gw_form c 0 ⟨pk_in (13 * c + 0) 78 (by omega), nm_r (e' := upd a5 (13 * c) (nI 1)) ?_ (gw_ll_15 hc (by omega) H)⟩
  rw [nI_clamp (show 13 * c + 0 < 2 ^ 31 by omega)]
  rfl
theorem gw_beginPen {post : St2 → Prop} {fs kn pn ps px py pt xl xh yl yh fl fr bl br lo tl : Int32} {a1 a2 a3 a4 a5 a6 a7 a8 a9 a10 a11 a12 a13 a14 a15 a16 a17 a18 a19 a20 a21 a22 a23 a24 a25 : Nat → Int32} (H : post (fs, kn, pn, ps, 0, 0, 0, 0, 0, 0, 0, fl, fr, bl, br, lo, tl, a1, a2, a3, a4, a5, a6, a7, a8, a9, a10, a11, a12, a13, a14, a15, a16, a17, a18, a19, a20, a21, a22, a23, a24, a25)) : wpX_beginPen post (fs, kn, pn, ps, px, py, pt, xl, xh, yl, yh, fl, fr, bl, br, lo, tl, a1, a2, a3, a4, a5, a6, a7, a8, a9, a10, a11, a12, a13, a14, a15, a16, a17, a18, a19, a20, a21, a22, a23, a24, a25) := H
theorem gw_beginRuns {post : St2 → Prop} {fs kn pn ps px py pt xl xh yl yh fl fr bl br lo tl : Int32} {a1 a2 a3 a4 a5 a6 a7 a8 a9 a10 a11 a12 a13 a14 a15 a16 a17 a18 a19 a20 a21 a22 a23 a24 a25 : Nat → Int32} (H : post (fs, kn, pn, ps, px, py, pt, xl, xh, yl, yh, -1, 0, -1, 0, 0, 0, a1, a2, a3, a4, a5, a6, a7, a8, a9, a10, a11, a12, a13, a14, a15, a16, a17, a18, a19, a20, a21, a22, a23, a24, a25)) : wpX_beginRuns post (fs, kn, pn, ps, px, py, pt, xl, xh, yl, yh, fl, fr, bl, br, lo, tl, a1, a2, a3, a4, a5, a6, a7, a8, a9, a10, a11, a12, a13, a14, a15, a16, a17, a18, a19, a20, a21, a22, a23, a24, a25) := H
theorem gw_lf_46 {post : St2 → Prop} {c lev : Nat} {RS : Nat → Nat} {R : Nat → Nat → Nat} {fs kn pn ps : Int32} {a1 a2 a3 a4 a5 a7 a8 a9 a10 a11 a12 a13 a14 a15 a16 a17 a18 a19 a20 a21 a22 a23 a24 a25 : Nat → Int32} (hc : c < 6) (hl : lev + 1 < 13) (P : gw_P RS R a1 a2) (Z : ∀ d, d < 6 → a5 (13 * d + lev) = nI (gw_S RS R lev d))
    (H : ∀ (px py pt xl xh yl yh fl fr bl br lo tl : Int32) (a6 a7 a8 a9 a10 a11 a12 a13 a14 a15 a16 a17 a18 : Nat → Int32), post (fs, kn, pn, ps, px, py, pt, xl, xh, yl, yh, fl, fr, bl, br, lo, tl, a1, a2, a3, a4, upd a5 (13 * c + (lev + 1)) (nI (gw_S RS R (lev + 1) c)), a6, a7, a8, a9, a10, a11, a12, a13, a14, a15, a16, a17, a18, a19, a20, a21, a22, a23, a24, a25)) :
    ∀ k i, i + k = RS c → ∀ (px py pt xl xh yl yh fl fr bl br lo : Int32) (a6 : Nat → Int32), wX_layForm_46 post (nI c) (nI (lev + 1)) (nI (13 * c + (lev + 1))) (k + 1) (nI i) fs kn pn ps px py pt xl xh yl yh fl fr bl br lo (nI (gw_sum i (fun j => gw_S RS R lev (R c j)))) a1 a2 a3 a4 a5 a6 a7 a8 a9 a10 a11 a12 a13 a14 a15 a16 a17 a18 a19 a20 a21 a22 a23 a24 a25 := by
  have hR := (P.1 c hc).1
  have hA : a1 (nI c).toNatClampNeg = nI (RS c) := by rw [nI_clamp (show c < 2 ^ 31 by omega)]; exact (P.1 c hc).2
  have hf : vp_in (nI (13 * c + (lev + 1))) 78 := pk_in (13 * c + (lev + 1)) 78 (by omega)
  intro k
  induction k with
  | zero =>
    intro i hi px py pt xl xh yl yh fl fr bl br lo a6
    refine And.intro (pk_in c 6 hc) (pk_le (RS c) i (fun _ => And.intro hf (nm_r (e' := upd a5 (13 * c + (lev + 1)) (nI (gw_S RS R (lev + 1) c))) ?_ ?_)) (fun z => absurd z (by omega)) (hx := hA))
    · rw [nI_clamp (show 13 * c + (lev + 1) < 2 ^ 31 by omega), show i = RS c by omega]
      rfl
    · exact And.intro hf (fun a7 _ => And.intro hf (fun a8 _ => And.intro hf (fun a9 _ => And.intro hf (fun a10 _ => And.intro hf (fun a11 _ => And.intro hf (fun a12 _ => And.intro hf (fun a13 _ => And.intro hf (fun a14 _ => And.intro hf (fun a15 _ => And.intro hf (fun a16 _ => And.intro hf (fun a17 _ => And.intro hf (fun a18 _ => H px py pt xl xh yl yh fl fr bl br lo _ a6 a7 a8 a9 a10 a11 a12 a13 a14 a15 a16 a17 a18))))))))))))
  | succ k ih =>
    intro i hi px py pt xl xh yl yh fl fr bl br lo a6
    have hi' : i < RS c := by omega
    obtain ⟨hr, hr2⟩ := P.2 c i hc hi'
    have hp : 13 * R c i + lev < 78 := by omega
    refine And.intro (pk_in c 6 hc) (pk_le (RS c) i (fun z => absurd z (by omega)) (fun _ => And.intro (pk_in (4 * c + i) 24 (by omega) (gw_i4 c i)) (gw_form (R c i) lev ?_ (by rw [gw_i4, nI_clamp (show 4 * c + i < 2 ^ 31 by omega)]; exact hr2) (nI_pred lev))) (hx := hA))
    refine gw_drawForm (pk_in (13 * R c i + lev) 78 hp) (fun px py pt xl xh yl yh => ?_)
    refine gw_joinRuns (pk_in (13 * R c i + lev) 78 hp) (fun fl fr bl br lo tl et => ?_)
    refine gw_addNumbers (by omega) hp (fun a6 => ?_)
    refine nm_r (nI_1 i) ?_
    rw [nI_clamp (show 13 * R c i + lev < 2 ^ 31 by omega), Z (R c i) hr, nI_add] at et
    subst et
    exact ih (i + 1) (by omega) px py pt xl xh yl yh fl fr bl br lo a6
theorem gw_lf_17 {post : St2 → Prop} {c lev : Nat} {RS : Nat → Nat} {R : Nat → Nat → Nat} {fs kn pn ps px py pt xl xh yl yh fl fr bl br lo : Int32} {a1 a2 a3 a4 a5 a6 a7 a8 a9 a10 a11 a12 a13 a14 a15 a16 a17 a18 a19 a20 a21 a22 a23 a24 a25 : Nat → Int32} (hc : c < 6) (hl : lev + 1 < 13) (P : gw_P RS R a1 a2) (Z : ∀ d, d < 6 → a5 (13 * d + lev) = nI (gw_S RS R lev d))
    (H : ∀ (px py pt xl xh yl yh fl fr bl br lo tl : Int32) (a6 a7 a8 a9 a10 a11 a12 a13 a14 a15 a16 a17 a18 : Nat → Int32), post (fs, kn, pn, ps, px, py, pt, xl, xh, yl, yh, fl, fr, bl, br, lo, tl, a1, a2, a3, a4, upd a5 (13 * c + (lev + 1)) (nI (gw_S RS R (lev + 1) c)), a6, a7, a8, a9, a10, a11, a12, a13, a14, a15, a16, a17, a18, a19, a20, a21, a22, a23, a24, a25)) :
    ∃ n, wX_layForm_17 post (nI c) (nI (lev + 1)) (nI (13 * c + (lev + 1))) fs kn pn ps px py pt xl xh yl yh fl fr bl br lo 0 n 0 a1 a2 a3 a4 a5 a6 a7 a8 a9 a10 a11 a12 a13 a14 a15 a16 a17 a18 a19 a20 a21 a22 a23 a24 a25 :=
  pk_loop (fun n i s => wX_layForm_17 post (nI c) (nI (lev + 1)) (nI (13 * c + (lev + 1))) fs kn pn ps px py pt xl xh yl yh fl fr bl br lo 0 n (nI i) a1 a2 a3 a4 a5 s a7 a8 a9 a10 a11 a12 a13 a14 a15 a16 a17 a18 a19 a20 a21 a22 a23 a24 a25) (fun _ _ => True) 6 0 a6 (by omega) trivial
    (fun n s _ => pk_le 6 6 (fun _ => ⟨RS c + 1, gw_lf_46 hc hl P Z H (RS c) 0 (by omega) px py pt xl xh yl yh fl fr bl br lo s⟩) (fun z => absurd z (by omega)))
    (fun n i s hi _ hk => pk_le 6 i (fun z => absurd z (by omega)) (fun _ => ⟨pk_in (6 * (13 * c + (lev + 1)) + i) 468 (by omega) (gw_i6 _ i), nm_e (nm_r (nI_1 i) (hk _ trivial))⟩))
theorem gw_layForm {post : St2 → Prop} {c lev : Nat} {RS : Nat → Nat} {R : Nat → Nat → Nat} {fs kn pn ps px py pt xl xh yl yh fl fr bl br lo tl : Int32} {a1 a2 a3 a4 a5 a6 a7 a8 a9 a10 a11 a12 a13 a14 a15 a16 a17 a18 a19 a20 a21 a22 a23 a24 a25 : Nat → Int32} (hc : c < 6) (hl : lev + 1 < 13) (P : gw_P RS R a1 a2) (Z : ∀ d, d < 6 → a5 (13 * d + lev) = nI (gw_S RS R lev d))
    (H : ∀ (px py pt xl xh yl yh fl fr bl br lo tl : Int32) (a6 a7 a8 a9 a10 a11 a12 a13 a14 a15 a16 a17 a18 : Nat → Int32), post (fs, kn, pn, ps, px, py, pt, xl, xh, yl, yh, fl, fr, bl, br, lo, tl, a1, a2, a3, a4, upd a5 (13 * c + (lev + 1)) (nI (gw_S RS R (lev + 1) c)), a6, a7, a8, a9, a10, a11, a12, a13, a14, a15, a16, a17, a18, a19, a20, a21, a22, a23, a24, a25)) :
    wpX_layForm post (fs, kn, pn, ps, px, py, pt, xl, xh, yl, yh, fl, fr, bl, br, lo, tl, a1, a2, a3, a4, a5, a6, a7, a8, a9, a10, a11, a12, a13, a14, a15, a16, a17, a18, a19, a20, a21, a22, a23, a24, a25) (nI c) (nI (lev + 1)) := by
  unfold wpX_layForm
  refine gw_form c (lev + 1) ?_
  refine gw_beginPen ?_
  refine gw_beginRuns ?_
  exact gw_lf_17 hc hl P Z H
end
section
def gw_Y (RS : Nat → Nat) (R : Nat → Nat → Nat) (a5 : Nat → Int32) (lev c : Nat) : Prop := ∀ l d, l < 13 → d < 6 → (l < lev ∨ (l = lev ∧ d < c)) → a5 (13 * d + l) = nI (gw_S RS R l d)
theorem gw_Y_s {RS : Nat → Nat} {R : Nat → Nat → Nat} {a5 : Nat → Int32} {lev c : Nat} (hc : c < 6) (hl : lev < 13) (h : gw_Y RS R a5 lev c) : gw_Y RS R (upd a5 (13 * c + lev) (nI (gw_S RS R lev c))) lev (c + 1) := by
  intro l d h1 h2 h3
  by_cases e : l = lev ∧ d = c
  · obtain ⟨rfl, rfl⟩ := e
    rw [pk_us]
  · rw [pk_un (show 13 * d + l ≠ 13 * c + lev by omega)]
    exact h l d h1 h2 (by omega)
theorem gw_Y_6 {RS : Nat → Nat} {R : Nat → Nat → Nat} {a5 : Nat → Int32} {lev : Nat} (h : gw_Y RS R a5 lev 6) : gw_Y RS R a5 (lev + 1) 0 :=
  fun l d h1 h2 h3 => h l d h1 h2 (by omega)
theorem gw_l23 {post : St2 → Prop} {J : Int32 → Int32 → Int32 → Int32 → Int32 → Int32 → Int32 → Int32 → Int32 → Int32 → Int32 → Int32 → Int32 → Int32 → Int32 → Int32 → Int32 → Int32 → (Nat → Int32) → (Nat → Int32) → (Nat → Int32) → (Nat → Int32) → (Nat → Int32) → (Nat → Int32) → (Nat → Int32) → (Nat → Int32) → (Nat → Int32) → (Nat → Int32) → (Nat → Int32) → (Nat → Int32) → (Nat → Int32) → (Nat → Int32) → (Nat → Int32) → (Nat → Int32) → (Nat → Int32) → (Nat → Int32) → (Nat → Int32) → (Nat → Int32) → (Nat → Int32) → (Nat → Int32) → (Nat → Int32) → (Nat → Int32) → (Nat → Int32) → Prop} {lev : Nat} {RS : Nat → Nat} {R : Nat → Nat → Nat} {fs kn pn ps : Int32} {a1 a2 a3 a4 a19 a20 a21 a22 a23 a24 a25 : Nat → Int32} (hl : lev < 13) (P : gw_P RS R a1 a2)
    (HJ : ∀ (px py pt xl xh yl yh fl fr bl br lo tl : Int32) (a5 a6 a7 a8 a9 a10 a11 a12 a13 a14 a15 a16 a17 a18 : Nat → Int32), gw_Y RS R a5 (lev + 1) 0 → J (nI (lev + 1)) fs kn pn ps px py pt xl xh yl yh fl fr bl br lo tl a1 a2 a3 a4 a5 a6 a7 a8 a9 a10 a11 a12 a13 a14 a15 a16 a17 a18 a19 a20 a21 a22 a23 a24 a25) :
    ∀ k c, c + k = 6 → ∀ (px py pt xl xh yl yh fl fr bl br lo tl : Int32) (a5 a6 a7 a8 a9 a10 a11 a12 a13 a14 a15 a16 a17 a18 : Nat → Int32), gw_Y RS R a5 lev c → wX_learn_23 post J (nI lev) (k + 1) (nI c) fs kn pn ps px py pt xl xh yl yh fl fr bl br lo tl a1 a2 a3 a4 a5 a6 a7 a8 a9 a10 a11 a12 a13 a14 a15 a16 a17 a18 a19 a20 a21 a22 a23 a24 a25 := by
  intro k
  induction k with
  | zero =>
    intro c hc px py pt xl xh yl yh fl fr bl br lo tl a5 a6 a7 a8 a9 a10 a11 a12 a13 a14 a15 a16 a17 a18 Y
    obtain rfl : c = 6 := by omega
    exact pk_le 6 6 (fun _ => nm_r (nI_1 lev) (HJ px py pt xl xh yl yh fl fr bl br lo tl a5 a6 a7 a8 a9 a10 a11 a12 a13 a14 a15 a16 a17 a18 (gw_Y_6 Y))) (fun z => absurd z (by omega))
  | succ k ih =>
    intro c hc px py pt xl xh yl yh fl fr bl br lo tl a5 a6 a7 a8 a9 a10 a11 a12 a13 a14 a15 a16 a17 a18 Y
    refine pk_le 6 c (fun z => absurd z (by omega)) (fun _ => pk_eq lev 0 (fun z => ?_) (fun z => ?_))
    · subst z
      refine gw_layLetter (by omega) (fun a6 a7 a8 a9 a10 a11 a12 a13 a14 a15 a16 a17 a18 => ?_)
      refine nm_r (nI_1 c) ?_
      exact ih (c + 1) (by omega) px py pt xl xh yl yh fl fr bl br lo tl _ a6 a7 a8 a9 a10 a11 a12 a13 a14 a15 a16 a17 a18 (gw_Y_s (by omega) (by omega) Y)
    · obtain ⟨m, rfl⟩ : ∃ m, lev = m + 1 := ⟨lev - 1, by omega⟩
      refine gw_layForm (by omega) hl P (fun d hd => Y m d (by omega) hd (by omega)) (fun px py pt xl xh yl yh fl fr bl br lo tl a6 a7 a8 a9 a10 a11 a12 a13 a14 a15 a16 a17 a18 => ?_)
      refine nm_r (nI_1 c) ?_
      exact ih (c + 1) (by omega) px py pt xl xh yl yh fl fr bl br lo tl _ a6 a7 a8 a9 a10 a11 a12 a13 a14 a15 a16 a17 a18 (gw_Y_s (by omega) (by omega) Y)
theorem gw_l15 {post : St2 → Prop} {RS : Nat → Nat} {R : Nat → Nat → Nat} {fs kn pn ps : Int32} {a1 a2 a3 a4 a19 a20 a21 a22 a23 a24 a25 : Nat → Int32} (P : gw_P RS R a1 a2)
    (H : ∀ (px py pt xl xh yl yh fl fr bl br lo tl : Int32) (a5 a6 a7 a8 a9 a10 a11 a12 a13 a14 a15 a16 a17 a18 : Nat → Int32), gw_Z RS R a5 → post (fs, kn, pn, ps, px, py, pt, xl, xh, yl, yh, fl, fr, bl, br, lo, tl, a1, a2, a3, a4, a5, a6, a7, a8, a9, a10, a11, a12, a13, a14, a15, a16, a17, a18, a19, a20, a21, a22, a23, a24, a25)) :
    ∀ k lev, lev + k = 13 → ∀ (px py pt xl xh yl yh fl fr bl br lo tl : Int32) (a5 a6 a7 a8 a9 a10 a11 a12 a13 a14 a15 a16 a17 a18 : Nat → Int32), gw_Y RS R a5 lev 0 → wX_learn_15 post (k + 1) (nI lev) fs kn pn ps px py pt xl xh yl yh fl fr bl br lo tl a1 a2 a3 a4 a5 a6 a7 a8 a9 a10 a11 a12 a13 a14 a15 a16 a17 a18 a19 a20 a21 a22 a23 a24 a25 := by
  intro k
  induction k with
  | zero =>
    intro lev hl px py pt xl xh yl yh fl fr bl br lo tl a5 a6 a7 a8 a9 a10 a11 a12 a13 a14 a15 a16 a17 a18 Y
    exact pk_le 13 lev (fun _ => H px py pt xl xh yl yh fl fr bl br lo tl a5 a6 a7 a8 a9 a10 a11 a12 a13 a14 a15 a16 a17 a18 (fun l d h1 h2 => Y l d h1 h2 (by omega))) (fun z => absurd z (by omega))
  | succ k ih =>
    intro lev hl px py pt xl xh yl yh fl fr bl br lo tl a5 a6 a7 a8 a9 a10 a11 a12 a13 a14 a15 a16 a17 a18 Y
    refine pk_le 13 lev (fun z => absurd z (by omega)) (fun _ => ⟨7, ?_⟩)
    exact gw_l23 (by omega) P (fun px py pt xl xh yl yh fl fr bl br lo tl a5 a6 a7 a8 a9 a10 a11 a12 a13 a14 a15 a16 a17 a18 Y' => ih (lev + 1) (by omega) px py pt xl xh yl yh fl fr bl br lo tl a5 a6 a7 a8 a9 a10 a11 a12 a13 a14 a15 a16 a17 a18 Y') 6 0 (by omega) px py pt xl xh yl yh fl fr bl br lo tl a5 a6 a7 a8 a9 a10 a11 a12 a13 a14 a15 a16 a17 a18 Y
theorem gw_learn {post : St2 → Prop} {RS : Nat → Nat} {R : Nat → Nat → Nat} {fs kn pn ps px py pt xl xh yl yh fl fr bl br lo tl : Int32} {a1 a2 a3 a4 a5 a6 a7 a8 a9 a10 a11 a12 a13 a14 a15 a16 a17 a18 a19 a20 a21 a22 a23 a24 a25 : Nat → Int32} (P : gw_P RS R a1 a2) (hk : kn = 0 ∨ (¬ kn = 0 ∧ gw_Z RS R a5))
    (H : ∀ (kn px py pt xl xh yl yh fl fr bl br lo tl : Int32) (a5 a6 a7 a8 a9 a10 a11 a12 a13 a14 a15 a16 a17 a18 : Nat → Int32), ¬ kn = 0 → gw_Z RS R a5 → post (fs, kn, pn, ps, px, py, pt, xl, xh, yl, yh, fl, fr, bl, br, lo, tl, a1, a2, a3, a4, a5, a6, a7, a8, a9, a10, a11, a12, a13, a14, a15, a16, a17, a18, a19, a20, a21, a22, a23, a24, a25)) : wpX_learn post (fs, kn, pn, ps, px, py, pt, xl, xh, yl, yh, fl, fr, bl, br, lo, tl, a1, a2, a3, a4, a5, a6, a7, a8, a9, a10, a11, a12, a13, a14, a15, a16, a17, a18, a19, a20, a21, a22, a23, a24, a25) := by
  unfold wpX_learn
  refine br_c (fun _ => ⟨14, gw_l15 P (fun px py pt xl xh yl yh fl fr bl br lo tl a5 a6 a7 a8 a9 a10 a11 a12 a13 a14 a15 a16 a17 a18 Z => H _ px py pt xl xh yl yh fl fr bl br lo tl a5 a6 a7 a8 a9 a10 a11 a12 a13 a14 a15 a16 a17 a18 (by decide) Z) 13 0 (by omega) px py pt xl xh yl yh fl fr bl br lo tl a5 a6 a7 a8 a9 a10 a11 a12 a13 a14 a15 a16 a17 a18 (fun l d _ _ z => absurd z (by omega))⟩) (fun z => ?_)
  rcases hk with hk | ⟨hk, Z⟩
  · exact absurd hk z
  · exact H kn px py pt xl xh yl yh fl fr bl br lo tl a5 a6 a7 a8 a9 a10 a11 a12 a13 a14 a15 a16 a17 a18 hk Z
end
section
theorem gw_lengthOf {post : Int32 → Prop} {RS : Nat → Nat} {R : Nat → Nat → Nat} {k m : Nat} {F : Nat → Nat} {kn pn ps px py pt xl xh yl yh fl fr bl br lo tl : Int32} {a1 a2 a3 a4 a5 a6 a7 a8 a9 a10 a11 a12 a13 a14 a15 a16 a17 a18 a19 a20 a21 a22 a23 a24 a25 : Nat → Int32} (hF : gw_F k F a3) (Z : gw_Z RS R a5) (hm : m < 13)
    (H : post (nI (gw_len RS R k F m))) : wpX_lengthOf post (nI k, kn, pn, ps, px, py, pt, xl, xh, yl, yh, fl, fr, bl, br, lo, tl, a1, a2, a3, a4, a5, a6, a7, a8, a9, a10, a11, a12, a13, a14, a15, a16, a17, a18, a19, a20, a21, a22, a23, a24, a25) (nI m) := by
  have hk8 := hF.2.1
  refine pk_loop (σ := Unit) (fun n i _ => wX_lengthOf_4 post (nI m) (nI k) kn pn ps px py pt xl xh yl yh fl fr bl br lo tl a1 a2 a3 a4 a5 a6 a7 a8 a9 a10 a11 a12 a13 a14 a15 a16 a17 a18 a19 a20 a21 a22 a23 a24 a25 n (nI (gw_sum i (fun j => gw_S RS R m (F j)))) (nI i)) (fun _ _ => True) k 0 () (by omega) trivial
    (fun n _ _ => pk_le k k (fun _ => H) (fun z => absurd z (by omega))) ?_
  intro n i _ hi _ hk
  obtain ⟨h6, h3⟩ := hF.2.2 i hi
  refine pk_le k i (fun z => absurd z (by omega)) (fun _ => And.intro (pk_in i 8 (by omega)) (gw_form (F i) m ⟨pk_in (13 * F i + m) 78 (by omega), nm_r (e' := nI (gw_sum (i + 1) (fun j => gw_S RS R m (F j)))) ?_ (nm_r (nI_1 i) (hk () trivial))⟩ ?_))
  · rw [nI_clamp (show 13 * F i + m < 2 ^ 31 by omega), Z m (F i) hm h6, nI_add]
    rfl
  · rw [nI_clamp (show i < 2 ^ 31 by omega)]
    exact h3
theorem gw_ref_18 {post : Int32 → St2 → Prop} {RS : Nat → Nat} {R : Nat → Nat → Nat} {k m : Nat} {F : Nat → Nat} {kn pn ps px py pt xl xh yl yh fl fr bl br lo tl : Int32} {a1 a2 a3 a4 a5 a6 a7 a8 a9 a10 a11 a12 a13 a14 a15 a16 a17 a18 a19 a20 a21 a22 a23 a24 a25 : Nat → Int32} (P : gw_P RS R a1 a2) (hF : gw_F k F a3) (Z : gw_Z RS R a5) (hm : m < 13)
    (H2 : (∃ j, j ≤ m ∧ 3000 < gw_len RS R k F j) → post (-2) (nI k, kn, pn, ps, px, py, pt, xl, xh, yl, yh, fl, fr, bl, br, lo, tl, a1, a2, a3, a4, a5, a6, a7, a8, a9, a10, a11, a12, a13, a14, a15, a16, a17, a18, a19, a20, a21, a22, a23, a24, a25)) (H0 : (∀ j, j ≤ m → gw_len RS R k F j ≤ 3000) → post 0 (nI k, kn, pn, ps, px, py, pt, xl, xh, yl, yh, fl, fr, bl, br, lo, tl, a1, a2, a3, a4, a5, a6, a7, a8, a9, a10, a11, a12, a13, a14, a15, a16, a17, a18, a19, a20, a21, a22, a23, a24, a25)) :
    ∃ n, wX_refusal_18 post (nI m) (nI k) kn pn ps px py pt xl xh yl yh fl fr bl br lo tl a1 a2 a3 a4 a5 a6 a7 a8 a9 a10 a11 a12 a13 a14 a15 a16 a17 a18 a19 a20 a21 a22 a23 a24 a25 n 0 := by
  refine pk_loop (σ := Unit) (fun n i _ => wX_refusal_18 post (nI m) (nI k) kn pn ps px py pt xl xh yl yh fl fr bl br lo tl a1 a2 a3 a4 a5 a6 a7 a8 a9 a10 a11 a12 a13 a14 a15 a16 a17 a18 a19 a20 a21 a22 a23 a24 a25 n (nI i)) (fun i _ => ∀ j, j < i → gw_len RS R k F j ≤ 3000) (m + 1) 0 () (by omega) (fun j z => absurd z (by omega))
    (fun n _ h => pk_lt m (m + 1) (fun _ => H0 (fun j hj => h j (by omega))) (fun z => absurd z (by omega))) ?_
  intro n i _ hi h hk
  have hb := gw_len_lt P hF (show i < 13 by omega)
  refine pk_lt m i (fun z => absurd z (by omega)) (fun _ => gw_lengthOf hF Z (by omega) (pk_le (gw_len RS R k F i) 3000 (fun z => nm_r (nI_1 i) (hk () (fun j hj => ?_))) (fun z => H2 ⟨i, by omega, z⟩)))
  by_cases e : j = i
  · rw [e]; exact z
  · exact h j (by omega)
theorem gw_13 {p0 : Int32} (h0 : ¬ p0 < 0) (h : p0 < 13) : ∃ m, m < 13 ∧ p0 = nI m := by
  obtain ⟨c, hc, rfl⟩ := nI_of h0
  exact ⟨c, (nI_ltI (b := 13) hc (by decide)).mp h, rfl⟩
theorem gw_refusal {post : Int32 → St2 → Prop} {RS : Nat → Nat} {R : Nat → Nat → Nat} {k : Nat} {F : Nat → Nat} {p0 : Int32} {kn pn ps px py pt xl xh yl yh fl fr bl br lo tl : Int32} {a1 a2 a3 a4 a5 a6 a7 a8 a9 a10 a11 a12 a13 a14 a15 a16 a17 a18 a19 a20 a21 a22 a23 a24 a25 : Nat → Int32} (P : gw_P RS R a1 a2) (hF : gw_F k F a3) (hk : kn = 0 ∨ (¬ kn = 0 ∧ gw_Z RS R a5))
    (H1 : (p0 < 0 ∨ ¬ p0 < 13) → post (-1) (nI k, kn, pn, ps, px, py, pt, xl, xh, yl, yh, fl, fr, bl, br, lo, tl, a1, a2, a3, a4, a5, a6, a7, a8, a9, a10, a11, a12, a13, a14, a15, a16, a17, a18, a19, a20, a21, a22, a23, a24, a25))
    (H2 : ∀ m, m < 13 → p0 = nI m → (∃ j, j ≤ m ∧ 3000 < gw_len RS R k F j) → ∀ (kn px py pt xl xh yl yh fl fr bl br lo tl : Int32) (a5 a6 a7 a8 a9 a10 a11 a12 a13 a14 a15 a16 a17 a18 : Nat → Int32), ¬ kn = 0 → gw_Z RS R a5 → post (-2) (nI k, kn, pn, ps, px, py, pt, xl, xh, yl, yh, fl, fr, bl, br, lo, tl, a1, a2, a3, a4, a5, a6, a7, a8, a9, a10, a11, a12, a13, a14, a15, a16, a17, a18, a19, a20, a21, a22, a23, a24, a25))
    (H0 : ∀ m, m < 13 → p0 = nI m → (∀ j, j ≤ m → gw_len RS R k F j ≤ 3000) → ∀ (kn px py pt xl xh yl yh fl fr bl br lo tl : Int32) (a5 a6 a7 a8 a9 a10 a11 a12 a13 a14 a15 a16 a17 a18 : Nat → Int32), ¬ kn = 0 → gw_Z RS R a5 → post 0 (nI k, kn, pn, ps, px, py, pt, xl, xh, yl, yh, fl, fr, bl, br, lo, tl, a1, a2, a3, a4, a5, a6, a7, a8, a9, a10, a11, a12, a13, a14, a15, a16, a17, a18, a19, a20, a21, a22, a23, a24, a25)) :
    wpX_refusal post (nI k, kn, pn, ps, px, py, pt, xl, xh, yl, yh, fl, fr, bl, br, lo, tl, a1, a2, a3, a4, a5, a6, a7, a8, a9, a10, a11, a12, a13, a14, a15, a16, a17, a18, a19, a20, a21, a22, a23, a24, a25) p0 := by
  unfold wpX_refusal
  refine br_c (fun z => H1 (Or.inl z)) (fun z0 => br_c (fun z1 => ?_) (fun z1 => H1 (Or.inr z1)))
  obtain ⟨m, hm, rfl⟩ := gw_13 z0 z1
  refine gw_learn P hk (fun kn px py pt xl xh yl yh fl fr bl br lo tl a5 a6 a7 a8 a9 a10 a11 a12 a13 a14 a15 a16 a17 a18 hn Z => ?_)
  exact gw_ref_18 P hF Z hm (fun h => H2 m hm rfl h kn px py pt xl xh yl yh fl fr bl br lo tl a5 a6 a7 a8 a9 a10 a11 a12 a13 a14 a15 a16 a17 a18 hn Z) (fun h => H0 m hm rfl h kn px py pt xl xh yl yh fl fr bl br lo tl a5 a6 a7 a8 a9 a10 a11 a12 a13 a14 a15 a16 a17 a18 hn Z)
theorem gw_length {post : Int32 → St2 → Prop} {RS : Nat → Nat} {R : Nat → Nat → Nat} {k : Nat} {F : Nat → Nat} {p0 : Int32} {kn pn ps px py pt xl xh yl yh fl fr bl br lo tl : Int32} {a1 a2 a3 a4 a5 a6 a7 a8 a9 a10 a11 a12 a13 a14 a15 a16 a17 a18 a19 a20 a21 a22 a23 a24 a25 : Nat → Int32} (P : gw_P RS R a1 a2) (hF : gw_F k F a3) (hk : kn = 0 ∨ (¬ kn = 0 ∧ gw_Z RS R a5))
    (H1 : (p0 < 0 ∨ ¬ p0 < 13) → post (-1) (nI k, kn, pn, ps, px, py, pt, xl, xh, yl, yh, fl, fr, bl, br, lo, tl, a1, a2, a3, a4, a5, a6, a7, a8, a9, a10, a11, a12, a13, a14, a15, a16, a17, a18, a19, a20, a21, a22, a23, a24, a25))
    (H2 : ∀ m, m < 13 → p0 = nI m → (∃ j, j ≤ m ∧ 3000 < gw_len RS R k F j) → ∀ (kn px py pt xl xh yl yh fl fr bl br lo tl : Int32) (a5 a6 a7 a8 a9 a10 a11 a12 a13 a14 a15 a16 a17 a18 : Nat → Int32), ¬ kn = 0 → gw_Z RS R a5 → post (-2) (nI k, kn, pn, ps, px, py, pt, xl, xh, yl, yh, fl, fr, bl, br, lo, tl, a1, a2, a3, a4, a5, a6, a7, a8, a9, a10, a11, a12, a13, a14, a15, a16, a17, a18, a19, a20, a21, a22, a23, a24, a25))
    (H0 : ∀ m, m < 13 → p0 = nI m → (∀ j, j ≤ m → gw_len RS R k F j ≤ 3000) → ∀ (kn px py pt xl xh yl yh fl fr bl br lo tl : Int32) (a5 a6 a7 a8 a9 a10 a11 a12 a13 a14 a15 a16 a17 a18 : Nat → Int32), ¬ kn = 0 → gw_Z RS R a5 → post (nI (gw_len RS R k F m)) (nI k, kn, pn, ps, px, py, pt, xl, xh, yl, yh, fl, fr, bl, br, lo, tl, a1, a2, a3, a4, a5, a6, a7, a8, a9, a10, a11, a12, a13, a14, a15, a16, a17, a18, a19, a20, a21, a22, a23, a24, a25)) :
    wpX_length post (nI k, kn, pn, ps, px, py, pt, xl, xh, yl, yh, fl, fr, bl, br, lo, tl, a1, a2, a3, a4, a5, a6, a7, a8, a9, a10, a11, a12, a13, a14, a15, a16, a17, a18, a19, a20, a21, a22, a23, a24, a25) p0 := by
  unfold wpX_length
  refine gw_refusal P hF hk (fun z => ?_) (fun m hm e h kn px py pt xl xh yl yh fl fr bl br lo tl a5 a6 a7 a8 a9 a10 a11 a12 a13 a14 a15 a16 a17 a18 hn Z => ?_) (fun m hm e h kn px py pt xl xh yl yh fl fr bl br lo tl a5 a6 a7 a8 a9 a10 a11 a12 a13 a14 a15 a16 a17 a18 hn Z => ?_)
  · exact br_f (by decide) (H1 z)
  · exact br_f (by decide) (H2 m hm e h kn px py pt xl xh yl yh fl fr bl br lo tl a5 a6 a7 a8 a9 a10 a11 a12 a13 a14 a15 a16 a17 a18 hn Z)
  · subst e
    exact br_t rfl (gw_lengthOf hF Z hm (H0 m hm rfl h kn px py pt xl xh yl yh fl fr bl br lo tl a5 a6 a7 a8 a9 a10 a11 a12 a13 a14 a15 a16 a17 a18 hn Z))
theorem gw_length0 {post : Int32 → St2 → Prop} {RS : Nat → Nat} {R : Nat → Nat → Nat} {k : Nat} {F : Nat → Nat} {kn pn ps px py pt xl xh yl yh fl fr bl br lo tl : Int32} {a1 a2 a3 a4 a5 a6 a7 a8 a9 a10 a11 a12 a13 a14 a15 a16 a17 a18 a19 a20 a21 a22 a23 a24 a25 : Nat → Int32} (P : gw_P RS R a1 a2) (hF : gw_F k F a3) (hk : kn = 0 ∨ (¬ kn = 0 ∧ gw_Z RS R a5))
    (H : ∀ (kn px py pt xl xh yl yh fl fr bl br lo tl : Int32) (a5 a6 a7 a8 a9 a10 a11 a12 a13 a14 a15 a16 a17 a18 : Nat → Int32), ¬ kn = 0 → gw_Z RS R a5 → post (nI k) (nI k, kn, pn, ps, px, py, pt, xl, xh, yl, yh, fl, fr, bl, br, lo, tl, a1, a2, a3, a4, a5, a6, a7, a8, a9, a10, a11, a12, a13, a14, a15, a16, a17, a18, a19, a20, a21, a22, a23, a24, a25)) :
    wpX_length post (nI k, kn, pn, ps, px, py, pt, xl, xh, yl, yh, fl, fr, bl, br, lo, tl, a1, a2, a3, a4, a5, a6, a7, a8, a9, a10, a11, a12, a13, a14, a15, a16, a17, a18, a19, a20, a21, a22, a23, a24, a25) 0 := by
  refine gw_length P hF hk (fun z => ?_) (fun m hm e h kn px py pt xl xh yl yh fl fr bl br lo tl a5 a6 a7 a8 a9 a10 a11 a12 a13 a14 a15 a16 a17 a18 hn Z => ?_) (fun m hm e h kn px py pt xl xh yl yh fl fr bl br lo tl a5 a6 a7 a8 a9 a10 a11 a12 a13 a14 a15 a16 a17 a18 hn Z => ?_)
  · exact absurd z (by decide)
  · obtain rfl : 0 = m := (nI_eq (a := 0) (by decide) (by omega)).mp e
    obtain ⟨j, hj, h⟩ := h
    obtain rfl : j = 0 := by omega
    rw [gw_len_0] at h
    have := hF.2.1
    exact absurd h (by omega)
  · obtain rfl : 0 = m := (nI_eq (a := 0) (by decide) (by omega)).mp e
    rw [gw_len_0]
    exact H kn px py pt xl xh yl yh fl fr bl br lo tl a5 a6 a7 a8 a9 a10 a11 a12 a13 a14 a15 a16 a17 a18 hn Z
end
section
theorem gw_64 (t : Nat) : (64 : Int32) * 0 + nI t = nI t := by
  rw [show (64 : Int32) * 0 = nI 0 by decide, nI_add, Nat.zero_add]
theorem gw_push {post : St2 → Prop} {f t : Nat} {fs kn pn ps px py pt xl xh yl yh fl fr bl br lo tl : Int32} {a1 a2 a3 a4 a5 a6 a7 a8 a9 a10 a11 a12 a13 a14 a15 a16 a17 a18 a19 a20 a21 a22 a23 a24 a25 : Nat → Int32} (hf : f < 78) (h5 : a5 f = nI 1) (ht : t < 64) (h23 : a23 0 = nI t)
    (H : post (fs, kn, pn, ps, px, py, pt, xl, xh, yl, yh, fl, fr, bl, br, lo, tl, a1, a2, a3, a4, a5, a6, a7, a8, a9, a10, a11, a12, a13, a14, a15, a16, a17, a18, a19, a20, a21, a22, upd a23 0 (nI (t + 1)), upd a24 t (nI f), a25)) : wpX_pushForm post (fs, kn, pn, ps, px, py, pt, xl, xh, yl, yh, fl, fr, bl, br, lo, tl, a1, a2, a3, a4, a5, a6, a7, a8, a9, a10, a11, a12, a13, a14, a15, a16, a17, a18, a19, a20, a21, a22, a23, a24, a25) 0 (nI f) := by
  unfold wpX_pushForm
  have e5 : a5 (nI f).toNatClampNeg = nI 1 := by rw [nI_clamp (show f < 2 ^ 31 by omega)]; exact h5
  have e23 : a23 (0 : Int32).toNatClampNeg = nI t := by rw [sb_cl0]; exact h23
  have ei : (64 : Int32) * 0 + a23 (0 : Int32).toNatClampNeg = nI t := by rw [e23]; exact gw_64 t
  refine And.intro (pk_in f 78 hf) (pk_le 1 0 (fun z => absurd z (by omega)) (fun _ => And.intro (pk_in 0 2 (by omega)) (And.intro (pk_in t 128 (by omega) ei) (nm_r (e' := upd a24 t (nI f)) ?_ (And.intro (pk_in 0 2 (by omega)) (And.intro (pk_in 0 2 (by omega)) (nm_r (e' := upd a23 0 (nI (t + 1))) ?_ H)))))) (hx := e5))
  · rw [ei, nI_clamp (show t < 2 ^ 31 by omega)]
  · rw [e23, sb_cl0, nI_1]
theorem gw_br_14 {post : St2 → Prop} {RS : Nat → Nat} {R : Nat → Nat → Nat} {k : Nat} {F : Nat → Nat} {kn pn ps px py pt xl xh yl yh fl fr bl br lo tl : Int32} {a1 a2 a3 a4 a5 a6 a7 a8 a9 a10 a11 a12 a13 a14 a15 a16 a17 a18 a19 a20 a21 a22 a25 : Nat → Int32} (hF : gw_F k F a3) (Z : gw_Z RS R a5)
    (H : ∀ (a23 a24 : Nat → Int32), a23 0 = nI k → (∀ t, t < k → a24 t = nI (13 * F (k - 1 - t))) → post (nI k, kn, pn, ps, px, py, pt, xl, xh, yl, yh, fl, fr, bl, br, lo, tl, a1, a2, a3, a4, a5, a6, a7, a8, a9, a10, a11, a12, a13, a14, a15, a16, a17, a18, a19, a20, a21, a22, a23, a24, a25)) :
    ∀ i, i ≤ k → ∀ (a23 a24 : Nat → Int32), a23 0 = nI (k - i) → (∀ t, t < k - i → a24 t = nI (13 * F (k - 1 - t))) → wX_beginReader_14 post 0 0 (i + 1) (nI i - 1) (nI k) kn pn ps px py pt xl xh yl yh fl fr bl br lo tl a1 a2 a3 a4 a5 a6 a7 a8 a9 a10 a11 a12 a13 a14 a15 a16 a17 a18 a19 a20 a21 a22 a23 a24 a25 := by
  have hk8 := hF.2.1
  intro i
  induction i with
  | zero =>
    intro _ a23 a24 h23 h24
    exact br_t (by decide) (H a23 a24 h23 h24)
  | succ i ih =>
    intro hi a23 a24 h23 h24
    obtain ⟨h6, h3⟩ := hF.2.2 i (by omega)
    rw [nI_pred]
    refine br_f (nI_pos (by omega)) (And.intro (pk_in i 8 (by omega)) (gw_form (F i) 0 ?_ (by rw [nI_clamp (show i < 2 ^ 31 by omega)]; exact h3)))
    refine gw_push (f := 13 * F i) (t := k - (i + 1)) (by omega) (Z 0 (F i) (by omega) h6) (by omega) h23 ?_
    refine nm_r (e' := nI i - 1) (Int32.sub_eq_add_neg (nI i) 1).symm ?_
    refine ih (by omega) _ _ ?_ (fun t ht => ?_)
    · rw [pk_us, show k - (i + 1) + 1 = k - i by omega]
    · by_cases e : t = k - (i + 1)
      · rw [e, pk_us, show k - 1 - (k - (i + 1)) = i by omega]
      · rw [pk_un e]; exact h24 t (by omega)
theorem gw_beginReader {post : St2 → Prop} {RS : Nat → Nat} {R : Nat → Nat → Nat} {k : Nat} {F : Nat → Nat} {kn pn ps px py pt xl xh yl yh fl fr bl br lo tl : Int32} {a1 a2 a3 a4 a5 a6 a7 a8 a9 a10 a11 a12 a13 a14 a15 a16 a17 a18 a19 a20 a21 a22 a23 a24 a25 : Nat → Int32} (hF : gw_F k F a3) (Z : gw_Z RS R a5)
    (H : ∀ (a23 a24 : Nat → Int32), a23 0 = nI k → (∀ t, t < k → a24 t = nI (13 * F (k - 1 - t))) → post (nI k, kn, pn, ps, px, py, pt, xl, xh, yl, yh, fl, fr, bl, br, lo, tl, a1, a2, a3, a4, a5, a6, a7, a8, a9, a10, a11, a12, a13, a14, a15, a16, a17, a18, a19, a20, a21, a22, a23, a24, a25)) : wpX_beginReader post (nI k, kn, pn, ps, px, py, pt, xl, xh, yl, yh, fl, fr, bl, br, lo, tl, a1, a2, a3, a4, a5, a6, a7, a8, a9, a10, a11, a12, a13, a14, a15, a16, a17, a18, a19, a20, a21, a22, a23, a24, a25) 0 0 := by
  unfold wpX_beginReader
  refine And.intro (pk_in 0 2 (by omega)) (nm_r (e' := upd a23 0 0) (by rw [sb_cl0]) (nm_e ⟨k + 1, ?_⟩))
  refine gw_br_14 hF Z H k (Nat.le_refl k) _ a24 ?_ (fun t z => absurd z (by omega))
  rw [pk_us, Nat.sub_self]
  rfl
theorem gw_next {post : Int32 → Prop} {t : Nat} {fs kn pn ps px py pt xl xh yl yh fl fr bl br lo tl : Int32} {a1 a2 a3 a4 a5 a6 a7 a8 a9 a10 a11 a12 a13 a14 a15 a16 a17 a18 a19 a20 a21 a22 a23 a24 a25 : Nat → Int32} (ht : t < 64) (h23 : a23 0 = nI (t + 1)) (H : post (a24 t)) : wpX_nextForm post (fs, kn, pn, ps, px, py, pt, xl, xh, yl, yh, fl, fr, bl, br, lo, tl, a1, a2, a3, a4, a5, a6, a7, a8, a9, a10, a11, a12, a13, a14, a15, a16, a17, a18, a19, a20, a21, a22, a23, a24, a25) 0 := by
  unfold wpX_nextForm
  have e23 : a23 (0 : Int32).toNatClampNeg = nI (t + 1) := by rw [sb_cl0]; exact h23
  have ei : (64 : Int32) * 0 + a23 (0 : Int32).toNatClampNeg - 1 = nI t := by rw [e23, gw_64]; exact nI_pred t
  refine And.intro (pk_in 0 2 (by omega)) (pk_eq (t + 1) 0 (fun z => absurd z (by omega)) (fun _ => And.intro (pk_in 0 2 (by omega)) (And.intro (pk_in t 128 (by omega) ei) ?_)) (hx := e23))
  rw [ei, nI_clamp (show t < 2 ^ 31 by omega)]
  exact H
theorem gw_sk_68 {post : St2 → Prop} {J : Int32 → Int32 → Int32 → Int32 → Int32 → Int32 → Int32 → Int32 → Int32 → Int32 → Int32 → Int32 → Int32 → Int32 → Int32 → Int32 → Int32 → Int32 → Int32 → Int32 → (Nat → Int32) → (Nat → Int32) → (Nat → Int32) → (Nat → Int32) → (Nat → Int32) → (Nat → Int32) → (Nat → Int32) → (Nat → Int32) → (Nat → Int32) → (Nat → Int32) → (Nat → Int32) → (Nat → Int32) → (Nat → Int32) → (Nat → Int32) → (Nat → Int32) → (Nat → Int32) → (Nat → Int32) → (Nat → Int32) → (Nat → Int32) → (Nat → Int32) → (Nat → Int32) → (Nat → Int32) → (Nat → Int32) → (Nat → Int32) → (Nat → Int32) → Prop} {x3 x4 : Int32} {t j : Nat} {fs kn pn ps px py pt xl xh yl yh fl fr bl br lo tl : Int32} {a1 a2 a3 a4 a5 a6 a7 a8 a9 a10 a11 a12 a13 a14 a15 a16 a17 a18 a19 a20 a21 a22 a23 a24 a25 : Nat → Int32} (ht : t < 64) (h23 : a23 0 = nI (t + 1)) (h24 : a24 t = x4)
    (H : J x3 x4 (nI (j + 1)) fs kn pn ps px py pt xl xh yl yh fl fr bl br lo tl a1 a2 a3 a4 a5 a6 a7 a8 a9 a10 a11 a12 a13 a14 a15 a16 a17 a18 a19 a20 a21 a22 a23 a24 a25) : wX_skip_68 post J 0 x3 (nI j) fs kn pn ps px py pt xl xh yl yh fl fr bl br lo tl a1 a2 a3 a4 a5 a6 a7 a8 a9 a10 a11 a12 a13 a14 a15 a16 a17 a18 a19 a20 a21 a22 a23 a24 a25 := by
  unfold wX_skip_68
  refine gw_next ht h23 ?_
  rw [h24]
  exact nm_r (nI_1 j) H
theorem gw_sk_12 {post : St2 → Prop} {RS : Nat → Nat} {R : Nat → Nat → Nat} {k p : Nat} {F : Nat → Nat} {kn pn ps px py pt xl xh yl yh fl fr bl br lo tl : Int32} {a1 a2 a3 a4 a5 a6 a7 a8 a9 a10 a11 a12 a13 a14 a15 a16 a17 a18 a19 a20 a21 a22 a24 a25 : Nat → Int32} (hF : gw_F k F a3) (Z : gw_Z RS R a5) (hp : p < k) (h24 : ∀ t, t < k → a24 t = nI (13 * F (k - 1 - t)))
    (H : ∀ (a23 : Nat → Int32), a23 0 = nI (k - p) → post (nI k, kn, pn, ps, px, py, pt, xl, xh, yl, yh, fl, fr, bl, br, lo, tl, a1, a2, a3, a4, a5, a6, a7, a8, a9, a10, a11, a12, a13, a14, a15, a16, a17, a18, a19, a20, a21, a22, a23, a24, a25)) :
    ∀ d j, j + d = p → ∀ (a23 : Nat → Int32), a23 0 = nI (k - j) → wX_skip_12 post 0 (d + 1) (nI d) (nI (13 * F j)) (nI j) (nI k) kn pn ps px py pt xl xh yl yh fl fr bl br lo tl a1 a2 a3 a4 a5 a6 a7 a8 a9 a10 a11 a12 a13 a14 a15 a16 a17 a18 a19 a20 a21 a22 a23 a24 a25 := by
  have hk8 := hF.2.1
  intro d
  induction d with
  | zero =>
    intro j hj a23 h23
    obtain rfl : j = p := by omega
    exact pk_le 1000 j (fun z => absurd z (by omega)) (fun _ => pk_le 0 0 (fun _ => H a23 h23) (fun z => absurd z (by omega)))
  | succ d ih =>
    intro j hj a23 h23
    obtain ⟨h6, _⟩ := hF.2.2 j (by omega)
    have e5 : a5 (nI (13 * F j)).toNatClampNeg = nI 1 := by rw [nI_clamp (show 13 * F j < 2 ^ 31 by omega)]; exact Z 0 (F j) (by omega) h6
    have e23 : a23 (0 : Int32).toNatClampNeg = nI (k - j) := by rw [sb_cl0]; exact h23
    refine pk_le 1000 j (fun z => absurd z (by omega)) (fun _ => pk_le (d + 1) 0 (fun z => absurd z (by omega)) (fun _ => br_f (nI_pos (by omega)) (And.intro (pk_in (13 * F j) 78 (by omega)) (pk_lt (d + 1) 1 (fun z => absurd z (by omega)) (fun _ => And.intro (pk_in (13 * F j) 78 (by omega)) (nm_r (e' := nI d) ?_ (And.intro (pk_in 0 2 (by omega)) (And.intro (pk_in 0 2 (by omega)) (nm_r (e' := upd a23 0 (nI (k - (j + 1)))) ?_ ?_))))) (hy := e5)))))
    · rw [e5]
      exact nI_pred d
    · rw [e23, sb_cl0, show k - j = k - (j + 1) + 1 by omega, nI_pred]
    · refine gw_sk_68 (t := k - (j + 1) - 1) (x4 := nI (13 * F (j + 1))) (by omega) ?_ ?_ (ih (j + 1) (by omega) _ pk_us)
      · rw [pk_us, show k - (j + 1) - 1 + 1 = k - (j + 1) by omega]
      · rw [h24 _ (by omega), show k - 1 - (k - (j + 1) - 1) = j + 1 by omega]
theorem gw_skip {post : St2 → Prop} {RS : Nat → Nat} {R : Nat → Nat → Nat} {k p : Nat} {F : Nat → Nat} {kn pn ps px py pt xl xh yl yh fl fr bl br lo tl : Int32} {a1 a2 a3 a4 a5 a6 a7 a8 a9 a10 a11 a12 a13 a14 a15 a16 a17 a18 a19 a20 a21 a22 a23 a24 a25 : Nat → Int32} (hF : gw_F k F a3) (Z : gw_Z RS R a5) (hp : p < k) (h23 : a23 0 = nI k) (h24 : ∀ t, t < k → a24 t = nI (13 * F (k - 1 - t)))
    (H : ∀ (a23 : Nat → Int32), a23 0 = nI (k - p) → post (nI k, kn, pn, ps, px, py, pt, xl, xh, yl, yh, fl, fr, bl, br, lo, tl, a1, a2, a3, a4, a5, a6, a7, a8, a9, a10, a11, a12, a13, a14, a15, a16, a17, a18, a19, a20, a21, a22, a23, a24, a25)) : wpX_skip post (nI k, kn, pn, ps, px, py, pt, xl, xh, yl, yh, fl, fr, bl, br, lo, tl, a1, a2, a3, a4, a5, a6, a7, a8, a9, a10, a11, a12, a13, a14, a15, a16, a17, a18, a19, a20, a21, a22, a23, a24, a25) 0 (nI p) := by
  have hk8 := hF.2.1
  unfold wpX_skip
  refine gw_next (t := k - 1) (by omega) (by rw [h23, show k - 1 + 1 = k by omega]) ?_
  rw [h24 (k - 1) (by omega), show k - 1 - (k - 1) = 0 by omega]
  exact ⟨p + 1, gw_sk_12 hF Z hp h24 H p 0 (by omega) a23 h23⟩
theorem gw_levelOf {post : Int32 → Prop} {f : Nat} (hf : f < 2 ^ 31) (H : post (nI (f % 13))) : wpX_levelOf post () (nI f) := by
  unfold wpX_levelOf
  rw [gw_rem13 hf]
  exact ⟨by decide, H⟩
theorem gw_letterOf {post : Int32 → Prop} {f q : Nat} (hf : f < 2 ^ 31) (e : f / 13 = q) (H : post (nI q)) : wpX_letterOf post () (nI f) := by
  unfold wpX_letterOf
  rw [gw_div13 hf, e]
  exact ⟨by decide, H⟩
theorem gw_rd_42 {post : Int32 → St2 → Prop} {q : Nat} {fs kn pn ps px py pt xl xh yl yh fl fr bl br lo tl : Int32} {a1 a2 a3 a4 a5 a6 a7 a8 a9 a10 a11 a12 a13 a14 a15 a16 a17 a18 a19 a20 a21 a22 a23 a24 a25 : Nat → Int32} (hq : q < 6) (H : ∀ (a23 : Nat → Int32), post (nI q) (fs, kn, pn, ps, px, py, pt, xl, xh, yl, yh, fl, fr, bl, br, lo, tl, a1, a2, a3, a4, a5, a6, a7, a8, a9, a10, a11, a12, a13, a14, a15, a16, a17, a18, a19, a20, a21, a22, a23, a24, a25)) : wX_read_42 post 0 (nI (13 * q)) fs kn pn ps px py pt xl xh yl yh fl fr bl br lo tl a1 a2 a3 a4 a5 a6 a7 a8 a9 a10 a11 a12 a13 a14 a15 a16 a17 a18 a19 a20 a21 a22 a23 a24 a25 :=
  br_t (nI_pos' (by omega)) (And.intro (pk_in 0 2 (by omega)) (And.intro (pk_in 0 2 (by omega)) (nm_e (gw_letterOf (q := q) (by omega) (by omega) (H _)))))
theorem gw_read {post : Int32 → St2 → Prop} {q t : Nat} {fs kn pn ps px py pt xl xh yl yh fl fr bl br lo tl : Int32} {a1 a2 a3 a4 a5 a6 a7 a8 a9 a10 a11 a12 a13 a14 a15 a16 a17 a18 a19 a20 a21 a22 a23 a24 a25 : Nat → Int32} (hq : q < 6) (ht : t < 64) (h23 : a23 0 = nI (t + 1)) (h24 : a24 t = nI (13 * q)) (H : ∀ (a23 : Nat → Int32), post (nI q) (fs, kn, pn, ps, px, py, pt, xl, xh, yl, yh, fl, fr, bl, br, lo, tl, a1, a2, a3, a4, a5, a6, a7, a8, a9, a10, a11, a12, a13, a14, a15, a16, a17, a18, a19, a20, a21, a22, a23, a24, a25)) : wpX_read post (fs, kn, pn, ps, px, py, pt, xl, xh, yl, yh, fl, fr, bl, br, lo, tl, a1, a2, a3, a4, a5, a6, a7, a8, a9, a10, a11, a12, a13, a14, a15, a16, a17, a18, a19, a20, a21, a22, a23, a24, a25) 0 := by
  unfold wpX_read
  refine gw_next ht h23 ?_
  rw [h24]
  exact ⟨1, pk_le 13 0 (fun z => absurd z (by omega)) (fun _ => br_f (nI_pos (by omega)) (gw_levelOf (by omega) (pk_le (13 * q % 13) 0 (fun _ => gw_rd_42 hq H) (fun z => absurd z (by omega)))))⟩
theorem gw_letterOn {post : Int32 → St2 → Prop} {RS : Nat → Nat} {R : Nat → Nat → Nat} {k p : Nat} {F : Nat → Nat} {kn pn ps px py pt xl xh yl yh fl fr bl br lo tl : Int32} {a1 a2 a3 a4 a5 a6 a7 a8 a9 a10 a11 a12 a13 a14 a15 a16 a17 a18 a19 a20 a21 a22 a23 a24 a25 : Nat → Int32} (hF : gw_F k F a3) (Z : gw_Z RS R a5) (hp : p < k)
    (H : ∀ (a23 a24 : Nat → Int32), post (nI (F p)) (nI k, kn, pn, ps, px, py, pt, xl, xh, yl, yh, fl, fr, bl, br, lo, tl, a1, a2, a3, a4, a5, a6, a7, a8, a9, a10, a11, a12, a13, a14, a15, a16, a17, a18, a19, a20, a21, a22, a23, a24, a25)) : wpX_letterOn post (nI k, kn, pn, ps, px, py, pt, xl, xh, yl, yh, fl, fr, bl, br, lo, tl, a1, a2, a3, a4, a5, a6, a7, a8, a9, a10, a11, a12, a13, a14, a15, a16, a17, a18, a19, a20, a21, a22, a23, a24, a25) 0 (nI p) := by
  have hk8 := hF.2.1
  unfold wpX_letterOn
  refine gw_beginReader hF Z (fun a23 a24 h23 h24 => ?_)
  refine gw_skip hF Z hp h23 h24 (fun a23 h23 => ?_)
  refine gw_read (q := F p) (t := k - p - 1) (hF.2.2 p hp).1 (by omega) ?_ ?_ (fun a23 => ?_)
  · rw [h23, show k - p - 1 + 1 = k - p by omega]
  · rw [h24 _ (by omega), show k - 1 - (k - p - 1) = p by omega]
  · exact H a23 a24
/-- what letterAt(0, p1) answers -/
def gw_A (k : Nat) (F : Nat → Nat) (p1 r : Int32) : Prop := ((p1 < 0 ∨ ¬ p1 < nI k) → r = -3) ∧ (∀ q, q < k → p1 = nI q → r = nI (F q))
theorem gw_letterAt {post : Int32 → St2 → Prop} {RS : Nat → Nat} {R : Nat → Nat → Nat} {k : Nat} {F : Nat → Nat} {p1 : Int32} {kn pn ps px py pt xl xh yl yh fl fr bl br lo tl : Int32} {a1 a2 a3 a4 a5 a6 a7 a8 a9 a10 a11 a12 a13 a14 a15 a16 a17 a18 a19 a20 a21 a22 a23 a24 a25 : Nat → Int32} (P : gw_P RS R a1 a2) (hF : gw_F k F a3) (hk : kn = 0 ∨ (¬ kn = 0 ∧ gw_Z RS R a5))
    (H : ∀ (r : Int32) (kn px py pt xl xh yl yh fl fr bl br lo tl : Int32) (a5 a6 a7 a8 a9 a10 a11 a12 a13 a14 a15 a16 a17 a18 a23 a24 : Nat → Int32), ¬ kn = 0 → gw_Z RS R a5 → gw_A k F p1 r → post r (nI k, kn, pn, ps, px, py, pt, xl, xh, yl, yh, fl, fr, bl, br, lo, tl, a1, a2, a3, a4, a5, a6, a7, a8, a9, a10, a11, a12, a13, a14, a15, a16, a17, a18, a19, a20, a21, a22, a23, a24, a25)) :
    wpX_letterAt post (nI k, kn, pn, ps, px, py, pt, xl, xh, yl, yh, fl, fr, bl, br, lo, tl, a1, a2, a3, a4, a5, a6, a7, a8, a9, a10, a11, a12, a13, a14, a15, a16, a17, a18, a19, a20, a21, a22, a23, a24, a25) 0 p1 := by
  have hk8 := hF.2.1
  unfold wpX_letterAt
  refine gw_refusal P hF hk (fun z => absurd z (by decide)) (fun m hm e h kn px py pt xl xh yl yh fl fr bl br lo tl a5 a6 a7 a8 a9 a10 a11 a12 a13 a14 a15 a16 a17 a18 hn Z => ?_) (fun m hm e h kn px py pt xl xh yl yh fl fr bl br lo tl a5 a6 a7 a8 a9 a10 a11 a12 a13 a14 a15 a16 a17 a18 hn Z => ?_)
  · obtain rfl : 0 = m := (nI_eq (a := 0) (by decide) (by omega)).mp e
    obtain ⟨j, hj, h⟩ := h
    obtain rfl : j = 0 := by omega
    rw [gw_len_0] at h
    exact absurd h (by omega)
  · obtain rfl : 0 = m := (nI_eq (a := 0) (by decide) (by omega)).mp e
    refine br_t rfl (br_c (fun z => H _ kn px py pt xl xh yl yh fl fr bl br lo tl a5 a6 a7 a8 a9 a10 a11 a12 a13 a14 a15 a16 a17 a18 a23 a24 hn Z ⟨fun _ => rfl, fun q hq eq => ?_⟩) (fun z0 => gw_lengthOf (m := 0) hF Z (by omega) ?_))
    · rw [eq] at z
      exact absurd z (nI_pos (by omega))
    · rw [gw_len_0]
      refine br_c (fun z => ?_) (fun z => H _ kn px py pt xl xh yl yh fl fr bl br lo tl a5 a6 a7 a8 a9 a10 a11 a12 a13 a14 a15 a16 a17 a18 a23 a24 hn Z ⟨fun _ => rfl, fun q hq eq => ?_⟩)
      · obtain ⟨p, hp, rfl⟩ := nI_of z0
        have hpk : p < k := (nI_ltI hp (by omega)).mp z
        refine gw_letterOn hF Z hpk (fun a23 a24 => ?_)
        refine H _ kn px py pt xl xh yl yh fl fr bl br lo tl a5 a6 a7 a8 a9 a10 a11 a12 a13 a14 a15 a16 a17 a18 a23 a24 hn Z ⟨fun y => ?_, fun q hq eq => ?_⟩
        · rcases y with y | y
          · exact absurd y z0
          · exact absurd z y
        · rw [(nI_eq hp (by omega)).mp eq]
      · rw [eq] at z
        exact absurd (nI_lt hq (by omega)) z
end
section
theorem gw_nn {x : Nat} (h : x < 2 ^ 31) : ¬ nI x < -2 := fun z => nI_pos h (Int32.lt_trans z (by decide))
theorem gw_nm {x : Nat} (h : x < 2 ^ 31) : ¬ nI x = -1 := fun z => nI_pos h (by rw [z]; decide)
theorem gw_346 {post : Int32 → St0 → Prop} {mc ms kc ks : Nat} (H : post 1 ()) : wL_lawOf_346 post mc ms (-1) kc ks := br_t rfl H
theorem gw_323 {post : Int32 → St0 → Prop} {mc ms kc ks k : Nat} {RS : Nat → Nat} {R : Nat → Nat → Nat} {F : Nat → Nat} {x4 z0 : Int32} {kn pn ps px py pt xl xh yl yh fl fr bl br lo tl : Int32} {a1 a2 a3 a4 a5 a6 a7 a8 a9 a10 a11 a12 a13 a14 a15 a16 a17 a18 a19 a20 a21 a22 a23 a24 a25 : Nat → Int32} (P : gw_P RS R a1 a2) (hF : gw_F k F a3) (hk : kn = 0 ∨ (¬ kn = 0 ∧ gw_Z RS R a5))
    (hz : ¬ z0 = 0 → gw_plain RS R) (H : post 1 ()) : wL_lawOf_323 post mc ms x4 (nI k) z0 kc ks (nI k) kn pn ps px py pt xl xh yl yh fl fr bl br lo tl a1 a2 a3 a4 a5 a6 a7 a8 a9 a10 a11 a12 a13 a14 a15 a16 a17 a18 a19 a20 a21 a22 a23 a24 a25 := by
  have hk8 := hF.2.1
  unfold wL_lawOf_323
  refine gw_length P hF hk (fun z => ?_) (fun m hm e h kn px py pt xl xh yl yh fl fr bl br lo tl a5 a6 a7 a8 a9 a10 a11 a12 a13 a14 a15 a16 a17 a18 hn Z => ?_) (fun m hm e h kn px py pt xl xh yl yh fl fr bl br lo tl a5 a6 a7 a8 a9 a10 a11 a12 a13 a14 a15 a16 a17 a18 hn Z => ?_)
  · refine br_c (fun _ => gw_346 H) (fun y0 => br_c (fun y12 => ?_) (fun _ => gw_346 H))
    rcases z with z | z
    · exact absurd z y0
    · obtain ⟨q, hq, rfl⟩ := nI_of y0
      have h1 : q ≤ 12 := (nI_leI (b := 12) hq (by decide)).mp y12
      exact absurd ((nI_ltI (b := 13) hq (by decide)).mpr (by omega)) z
  · subst e
    refine br_f (nI_pos (by omega)) (br_t (nI_le (b := 12) (by omega) (by decide)) (br_c (fun _ => br_f (by decide) (br_f (by decide) (br_f (by decide) H))) (fun y => ?_)))
    obtain ⟨j, hj, h⟩ := h
    rw [gw_len_p (hz y) hF] at h
    exact absurd h (by omega)
  · subst e
    have h := h m (Nat.le_refl m)
    refine br_f (nI_pos (by omega)) (br_t (nI_le (b := 12) (by omega) (by decide)) (br_c (fun _ => br_f (gw_nn (by omega)) (br_f (gw_nm (by omega)) (br_f (nI_nlt (a := 3000) h (by decide)) H))) (fun y => br_t ?_ H)))
    · rw [gw_len_p (hz y) hF]
theorem gw_318 {post : Int32 → St0 → Prop} {mc ms kc ks k : Nat} {RS : Nat → Nat} {R : Nat → Nat → Nat} {F : Nat → Nat} {x4 : Int32} {kn pn ps px py pt xl xh yl yh fl fr bl br lo tl : Int32} {a1 a2 a3 a4 a5 a6 a7 a8 a9 a10 a11 a12 a13 a14 a15 a16 a17 a18 a19 a20 a21 a22 a23 a24 a25 : Nat → Int32} (P : gw_P RS R a1 a2) (hF : gw_F k F a3) (hk : kn = 0 ∨ (¬ kn = 0 ∧ gw_Z RS R a5))
    (hz : gw_plain RS R) (H : post 1 ()) : wL_lawOf_318 post mc ms x4 (nI k) kc ks (nI k) kn pn ps px py pt xl xh yl yh fl fr bl br lo tl a1 a2 a3 a4 a5 a6 a7 a8 a9 a10 a11 a12 a13 a14 a15 a16 a17 a18 a19 a20 a21 a22 a23 a24 a25 := by
  unfold wL_lawOf_318
  exact gw_323 P hF hk (fun _ => hz) H
theorem gw_322 {post : Int32 → St0 → Prop} {mc ms kc ks k : Nat} {RS : Nat → Nat} {R : Nat → Nat → Nat} {F : Nat → Nat} {x4 : Int32} {kn pn ps px py pt xl xh yl yh fl fr bl br lo tl : Int32} {a1 a2 a3 a4 a5 a6 a7 a8 a9 a10 a11 a12 a13 a14 a15 a16 a17 a18 a19 a20 a21 a22 a23 a24 a25 : Nat → Int32} (P : gw_P RS R a1 a2) (hF : gw_F k F a3) (hk : kn = 0 ∨ (¬ kn = 0 ∧ gw_Z RS R a5))
    (H : post 1 ()) : wL_lawOf_322 post mc ms x4 (nI k) kc ks (nI k) kn pn ps px py pt xl xh yl yh fl fr bl br lo tl a1 a2 a3 a4 a5 a6 a7 a8 a9 a10 a11 a12 a13 a14 a15 a16 a17 a18 a19 a20 a21 a22 a23 a24 a25 := by
  unfold wL_lawOf_322
  exact gw_323 P hF hk (fun y => absurd rfl y) H
/-- what the law knows of rule and first word -/
def gw_C (x0 x1 x2 x7 x8 x9 : Int32) (RS : Nat → Nat) (R : Nat → Nat → Nat) (k : Nat) (F : Nat → Nat) : Prop :=
  ((x7 = 0 ∨ x8 < 0 ∨ (x8 = 1 ∧ x1 = x0 + 1)) → gw_plain RS R) ∧ (1 ≤ x9 → gw_sI 8 x2 = some k ∧ x9 = nI k ∧ F = gw_W x2) ∧ (¬ 1 ≤ x9 → k = 1 ∧ F 0 = 0)
theorem gw_278 {post : Int32 → St0 → Prop} {mc ms kc ks k : Nat} {RS : Nat → Nat} {R : Nat → Nat → Nat} {F : Nat → Nat} {x0 x1 x2 x4 x5 x7 x8 x9 z0 : Int32} {kn pn ps px py pt xl xh yl yh fl fr bl br lo tl : Int32} {a1 a2 a3 a4 a5 a6 a7 a8 a9 a10 a11 a12 a13 a14 a15 a16 a17 a18 a19 a20 a21 a22 a23 a24 a25 : Nat → Int32} (P : gw_P RS R a1 a2) (hF : gw_F k F a3) (hk : kn = 0 ∨ (¬ kn = 0 ∧ gw_Z RS R a5))
    (C : gw_C x0 x1 x2 x7 x8 x9 RS R k F) (hz : ∀ r, gw_A k F x5 r → r = z0) (H : post 1 ()) : wL_lawOf_278 post mc ms x0 x1 x4 x5 x7 x8 (nI k) z0 kc ks (nI k) kn pn ps px py pt xl xh yl yh fl fr bl br lo tl a1 a2 a3 a4 a5 a6 a7 a8 a9 a10 a11 a12 a13 a14 a15 a16 a17 a18 a19 a20 a21 a22 a23 a24 a25 := by
  unfold wL_lawOf_278
  refine gw_letterAt P hF hk (fun r kn px py pt xl xh yl yh fl fr bl br lo tl a5 a6 a7 a8 a9 a10 a11 a12 a13 a14 a15 a16 a17 a18 a23 a24 hn Z hA => ?_)
  have hk' : kn = 0 ∨ (¬ kn = 0 ∧ gw_Z RS R a5) := Or.inr ⟨hn, Z⟩
  refine br_t (hz r hA) ?_
  refine br_c (fun y => gw_318 P hF hk' (C.1 (Or.inl y)) H) (fun _ => br_c (fun y => gw_318 P hF hk' (C.1 (Or.inr (Or.inl y))) H) (fun _ => br_c (fun y => br_c (fun y' => gw_318 P hF hk' (C.1 (Or.inr (Or.inr ⟨y, y'⟩))) H) (fun _ => gw_322 P hF hk' H)) (fun _ => gw_322 P hF hk' H)))
theorem gw_254 {post : Int32 → St0 → Prop} {mc ms kc ks k : Nat} {RS : Nat → Nat} {R : Nat → Nat → Nat} {F : Nat → Nat} {x0 x1 x2 x4 x5 x7 x8 x9 : Int32} {kn pn ps px py pt xl xh yl yh fl fr bl br lo tl : Int32} {a1 a2 a3 a4 a5 a6 a7 a8 a9 a10 a11 a12 a13 a14 a15 a16 a17 a18 a19 a20 a21 a22 a23 a24 a25 : Nat → Int32} (P : gw_P RS R a1 a2) (hF : gw_F k F a3) (hk : kn = 0 ∨ (¬ kn = 0 ∧ gw_Z RS R a5))
    (C : gw_C x0 x1 x2 x7 x8 x9 RS R k F) (h5 : x5 < 0 ∨ ¬ x5 < nI k) (H : post 1 ()) : wL_lawOf_254 post mc ms x0 x1 x4 x5 x7 x8 (nI k) kc ks (nI k) kn pn ps px py pt xl xh yl yh fl fr bl br lo tl a1 a2 a3 a4 a5 a6 a7 a8 a9 a10 a11 a12 a13 a14 a15 a16 a17 a18 a19 a20 a21 a22 a23 a24 a25 := by
  unfold wL_lawOf_254
  exact gw_278 P hF hk C (fun r hA => hA.1 h5) H
theorem gw_240 {post : Int32 → St0 → Prop} {mc ms kc ks k : Nat} {RS : Nat → Nat} {R : Nat → Nat → Nat} {F : Nat → Nat} {x0 x1 x2 x4 x5 x7 x8 x9 z0 : Int32} {kn pn ps px py pt xl xh yl yh fl fr bl br lo tl : Int32} {a1 a2 a3 a4 a5 a6 a7 a8 a9 a10 a11 a12 a13 a14 a15 a16 a17 a18 a19 a20 a21 a22 a23 a24 a25 : Nat → Int32} (P : gw_P RS R a1 a2) (hF : gw_F k F a3) (hk : kn = 0 ∨ (¬ kn = 0 ∧ gw_Z RS R a5))
    (C : gw_C x0 x1 x2 x7 x8 x9 RS R k F) (hu : ¬ z0 = 0) (hu2 : ∀ q, q < 8 → x5 = nI q → z0 = nI (7 ^ q)) (H : post 1 ()) : wL_lawOf_240 post mc ms x0 x1 x2 x4 x5 x7 x8 x9 (nI k) z0 kc ks (nI k) kn pn ps px py pt xl xh yl yh fl fr bl br lo tl a1 a2 a3 a4 a5 a6 a7 a8 a9 a10 a11 a12 a13 a14 a15 a16 a17 a18 a19 a20 a21 a22 a23 a24 a25 := by
  have hk8 := hF.2.1
  unfold wL_lawOf_240
  refine br_c (fun y => gw_254 P hF hk C (Or.inl y) H) (fun y0 => br_c (fun yk => ?_) (fun yk => gw_254 P hF hk C (Or.inr yk) H))
  obtain ⟨q, hq, rfl⟩ := nI_of y0
  have hqk : q < k := (nI_ltI hq (by omega)).mp yk
  have hz := hu2 q (by omega) rfl
  refine br_c (fun y => And.intro hu (And.intro (by decide) (gw_278 P hF hk C (fun r hA => ?_) H))) (fun y => gw_278 P hF hk C (fun r hA => ?_) H)
  · obtain ⟨c1, c2, c3⟩ := C.2.1 y
    obtain ⟨w, hw, rfl, _, hd, _⟩ := gw_sI_some c1
    have hp : 7 ^ q ≤ 823543 := show 7 ^ q ≤ 7 ^ 7 from Nat.pow_le_pow_right (by decide) (by omega)
    have hp0 : 0 < 7 ^ q := Nat.pow_pos (by decide)
    rw [hA.2 q hqk rfl, hz, pk_div hw hp0 (by omega), gw_let (Nat.lt_of_le_of_lt (Nat.div_le_self _ _) hw) (hd q hqk), c3]
    unfold gw_W
    rw [nI_clamp hw]
  · obtain ⟨c1, c2⟩ := C.2.2 y
    rw [hA.2 q hqk rfl, show q = 0 by omega, c2]
    rfl
theorem gw_un {x5 U : Int32} (j : Nat) (hj : j < 8) (e : x5 = nI j) (hU : U = nI (7 ^ j)) : ∀ q, q < 8 → x5 = nI q → U = nI (7 ^ q) := by
  intro q hq h
  have : j = q := (nI_eq (by omega) (by omega)).mp (e.symm.trans h)
  subst this
  exact hU
theorem gw_un7 {x5 : Int32} (h0 : ¬ x5 = 0) (h1 : ¬ x5 = 1) (h2 : ¬ x5 = 2) (h3 : ¬ x5 = 3) (h4 : ¬ x5 = 4) (h5 : ¬ x5 = 5) (h6 : ¬ x5 = 6) : ∀ q, q < 8 → x5 = nI q → (823543 : Int32) = nI (7 ^ q) := by
  intro q hq e
  have n0 : q ≠ 0 := fun z => h0 (by rw [e, z]; rfl)
  have n1 : q ≠ 1 := fun z => h1 (by rw [e, z]; rfl)
  have n2 : q ≠ 2 := fun z => h2 (by rw [e, z]; rfl)
  have n3 : q ≠ 3 := fun z => h3 (by rw [e, z]; rfl)
  have n4 : q ≠ 4 := fun z => h4 (by rw [e, z]; rfl)
  have n5 : q ≠ 5 := fun z => h5 (by rw [e, z]; rfl)
  have n6 : q ≠ 6 := fun z => h6 (by rw [e, z]; rfl)
  obtain rfl : q = 7 := by omega
  decide
theorem gw_144 {post : Int32 → St0 → Prop} {mc ms kc ks k : Nat} {RS : Nat → Nat} {R : Nat → Nat → Nat} {F : Nat → Nat} {x0 x1 x2 x4 x5 x7 x8 x9 z0 : Int32} {kn pn ps px py pt xl xh yl yh fl fr bl br lo tl : Int32} {a1 a2 a3 a4 a5 a6 a7 a8 a9 a10 a11 a12 a13 a14 a15 a16 a17 a18 a19 a20 a21 a22 a23 a24 a25 : Nat → Int32} (P : gw_P RS R a1 a2) (hF : gw_F k F a3) (hk : kn = 0 ∨ (¬ kn = 0 ∧ gw_Z RS R a5))
    (C : gw_C x0 x1 x2 x7 x8 x9 RS R k F) (e : z0 = nI k) (H : post 1 ()) : wL_lawOf_144 post mc ms x0 x1 x2 x4 x5 x7 x8 x9 z0 kc ks (nI k) kn pn ps px py pt xl xh yl yh fl fr bl br lo tl a1 a2 a3 a4 a5 a6 a7 a8 a9 a10 a11 a12 a13 a14 a15 a16 a17 a18 a19 a20 a21 a22 a23 a24 a25 := by
  subst e
  unfold wL_lawOf_144
  refine gw_length0 P hF hk (fun kn px py pt xl xh yl yh fl fr bl br lo tl a5 a6 a7 a8 a9 a10 a11 a12 a13 a14 a15 a16 a17 a18 hn Z => ?_)
  have hk' : kn = 0 ∨ (¬ kn = 0 ∧ gw_Z RS R a5) := Or.inr ⟨hn, Z⟩
  refine br_t rfl ?_
  refine br_c (fun y => gw_240 P hF hk' C (by decide) (gw_un 0 (by omega) y (by decide)) H) (fun y0 => ?_)
  refine br_c (fun y => gw_240 P hF hk' C (by decide) (gw_un 1 (by omega) y (by decide)) H) (fun y1 => ?_)
  refine br_c (fun y => gw_240 P hF hk' C (by decide) (gw_un 2 (by omega) y (by decide)) H) (fun y2 => ?_)
  refine br_c (fun y => gw_240 P hF hk' C (by decide) (gw_un 3 (by omega) y (by decide)) H) (fun y3 => ?_)
  refine br_c (fun y => gw_240 P hF hk' C (by decide) (gw_un 4 (by omega) y (by decide)) H) (fun y4 => ?_)
  refine br_c (fun y => gw_240 P hF hk' C (by decide) (gw_un 5 (by omega) y (by decide)) H) (fun y5 => ?_)
  refine br_c (fun y => gw_240 P hF hk' C (by decide) (gw_un 6 (by omega) y (by decide)) H) (fun y6 => ?_)
  exact gw_240 P hF hk' C (by decide) (gw_un7 y0 y1 y2 y3 y4 y5 y6) H
theorem gw_127 {post : Int32 → St0 → Prop} {mc ms kc ks k : Nat} {RS : Nat → Nat} {R : Nat → Nat → Nat} {F : Nat → Nat} {x0 x1 x2 x4 x5 x7 x8 x9 z0 z1 : Int32} {kn pn ps px py pt xl xh yl yh fl fr bl br lo tl : Int32} {a1 a2 a3 a4 a5 a6 a7 a8 a9 a10 a11 a12 a13 a14 a15 a16 a17 a18 a19 a20 a21 a22 a23 a24 a25 : Nat → Int32} (P : gw_P RS R a1 a2) (hF : gw_F k F a3) (hk : kn = 0 ∨ (¬ kn = 0 ∧ gw_Z RS R a5))
    (C : gw_C x0 x1 x2 x7 x8 x9 RS R k F) (e : z1 = z0) (H : post 1 ()) : wL_lawOf_127 post mc ms x0 x1 x2 x4 x5 x7 x8 x9 z0 z1 kc ks (nI k) kn pn ps px py pt xl xh yl yh fl fr bl br lo tl a1 a2 a3 a4 a5 a6 a7 a8 a9 a10 a11 a12 a13 a14 a15 a16 a17 a18 a19 a20 a21 a22 a23 a24 a25 := by
  unfold wL_lawOf_127
  refine br_t e (br_c (fun y => gw_144 P hF hk C (C.2.1 y).2.1 H) (fun y => gw_144 P hF hk C ?_ H))
  rw [(C.2.2 y).1]
  rfl
theorem gw_121 {post : Int32 → St0 → Prop} {mc ms kc ks k : Nat} {RS : Nat → Nat} {R : Nat → Nat → Nat} {F : Nat → Nat} {x0 x1 x2 x4 x5 x7 x8 x9 : Int32} {kn pn ps px py pt xl xh yl yh fl fr bl br lo tl : Int32} {a1 a2 a3 a4 a5 a6 a7 a8 a9 a10 a11 a12 a13 a14 a15 a16 a17 a18 a19 a20 a21 a22 a23 a24 a25 : Nat → Int32} (P : gw_P RS R a1 a2) (hF : gw_F k F a3) (hk : kn = 0 ∨ (¬ kn = 0 ∧ gw_Z RS R a5))
    (C : gw_C x0 x1 x2 x7 x8 x9 RS R k F) (H : post 1 ()) : wL_lawOf_121 post mc ms x0 x1 x2 x4 x5 x7 x8 x9 (-2) kc ks (nI k) kn pn ps px py pt xl xh yl yh fl fr bl br lo tl a1 a2 a3 a4 a5 a6 a7 a8 a9 a10 a11 a12 a13 a14 a15 a16 a17 a18 a19 a20 a21 a22 a23 a24 a25 := by
  unfold wL_lawOf_121
  exact gw_127 P hF hk C rfl H
theorem gw_n7 {x7 x0 : Int32} (h7 : x7 = 0 ↔ (x0 < 0 ∨ ¬ x0 < 6)) (y0 : ¬ x0 < 0) (y6 : x0 < 6) : ¬ x7 = 0 := by
  intro t
  rcases h7.mp t with t | t
  · exact y0 t
  · exact t y6
theorem gw_91 {post : Int32 → St0 → Prop} {mc ms kc ks k : Nat} {RS : Nat → Nat} {R : Nat → Nat → Nat} {F : Nat → Nat} {x0 x1 x2 x3 x4 x5 x7 x8 x9 z0 z1 : Int32} {pn ps px py pt xl xh yl yh fl fr bl br lo tl : Int32} {a1 a2 a3 a4 a5 a6 a7 a8 a9 a10 a11 a12 a13 a14 a15 a16 a17 a18 a19 a20 a21 a22 a23 a24 a25 : Nat → Int32} (P : gw_P RS R a1 a2) (hF : gw_F k F a3)
    (C : gw_C x0 x1 x2 x7 x8 x9 RS R k F) (K : ∀ c, c < 6 → a4 c = 0) (h7 : x7 = 0 ↔ (x0 < 0 ∨ ¬ x0 < 6)) (e : z1 = z0) (H : post 1 ()) : wL_lawOf_91 post mc ms x0 x1 x2 x3 x4 x5 x7 x8 x9 z0 z1 kc ks (nI k) 0 pn ps px py pt xl xh yl yh fl fr bl br lo tl a1 a2 a3 a4 a5 a6 a7 a8 a9 a10 a11 a12 a13 a14 a15 a16 a17 a18 a19 a20 a21 a22 a23 a24 a25 := by
  unfold wL_lawOf_91
  refine br_t e ?_
  refine gw_action K (fun y => ?_) (fun y0 y6 y => ?_) (fun a4 y0 y6 y3 y4 => ?_)
  · exact br_t (h7.mpr y) (gw_127 P hF (Or.inl rfl) C rfl H)
  · refine br_f (gw_n7 h7 y0 y6) (br_c (fun _ => gw_121 P hF (Or.inl rfl) C H) (fun w0 => br_c (fun w3 => ?_) (fun _ => gw_121 P hF (Or.inl rfl) C H)))
    rcases y with y | y
    · exact absurd y w0
    · exact absurd w3 y
  · exact br_f (gw_n7 h7 y0 y6) (br_f y3 (br_t y4 (gw_127 P hF (Or.inl rfl) C rfl H)))
theorem gw_68 {post : Int32 → St0 → Prop} {mc ms kc ks : Nat} {RS : Nat → Nat} {R : Nat → Nat → Nat} {x0 x1 x2 x3 x4 x5 x7 x8 x9 z0 z1 : Int32} {pn ps px py pt xl xh yl yh fl fr bl br lo tl : Int32} {a1 a2 a3 a4 a5 a6 a7 a8 a9 a10 a11 a12 a13 a14 a15 a16 a17 a18 a19 a20 a21 a22 a23 a24 a25 : Nat → Int32} (P : gw_P RS R a1 a2)
    (K : ∀ c, c < 6 → a4 c = 0) (K3 : a3 0 = 0) (hpl : (x7 = 0 ∨ x8 < 0 ∨ (x8 = 1 ∧ x1 = x0 + 1)) → gw_plain RS R) (h7 : x7 = 0 ↔ (x0 < 0 ∨ ¬ x0 < 6)) (h9 : x9 = gw_an 0 (gw_sI 8 x2)) (e : z1 = z0) (H : post 1 ()) :
    wL_lawOf_68 post mc ms x0 x1 x2 x3 x4 x5 x7 x8 x9 z0 z1 kc ks 1 0 pn ps px py pt xl xh yl yh fl fr bl br lo tl a1 a2 a3 a4 a5 a6 a7 a8 a9 a10 a11 a12 a13 a14 a15 a16 a17 a18 a19 a20 a21 a22 a23 a24 a25 := by
  unfold wL_lawOf_68
  refine br_t e ?_
  refine gw_begin (fun hn => ?_) (fun k a3 hs hF => ?_)
  · have n9 : ¬ 1 ≤ x9 := by
      rw [h9]
      cases h : gw_sI 8 x2 with
      | none => show ¬ (1 : Int32) ≤ -1; decide
      | some k => rw [hn k h]; show ¬ (1 : Int32) ≤ nI 0; decide
    refine br_f n9 (gw_91 (k := 1) (F := fun _ => 0) P ⟨by omega, by omega, fun i hi => ⟨show (0 : Nat) < 6 by decide, ?_⟩⟩ ⟨hpl, fun y => absurd y n9, fun _ => ⟨rfl, rfl⟩⟩ K h7 rfl H)
    rw [show i = 0 by omega]
    exact K3
  · have e9 : x9 = nI k := by rw [h9, hs]; rfl
    have hk8 := hF.2.1
    have y9 : 1 ≤ x9 := by rw [e9]; exact nI_le (a := 1) hF.1 (by omega)
    exact br_t y9 (gw_91 P hF ⟨hpl, fun _ => ⟨hs, e9, rfl⟩, fun y => absurd y9 y⟩ K h7 e9.symm H)
theorem gw_P1 {a1 a2 : Nat → Int32} (K1 : ∀ c, c < 6 → a1 c = nI 1) (K2 : ∀ c, c < 6 → a2 (4 * c) = nI c) : gw_P (fun _ => 1) (fun c _ => c) a1 a2 :=
  ⟨fun c hc => ⟨show (1 : Nat) ≤ 4 by decide, K1 c hc⟩, fun c i hc hi => ⟨hc, by
    have : i = 0 := by
      dsimp only at hi
      omega
    rw [this]
    exact K2 c hc⟩⟩
theorem gw_pl1 : gw_plain (fun _ => 1) (fun c _ => c) := fun _ _ => ⟨rfl, rfl⟩
theorem gw_23 {post : Int32 → St0 → Prop} {mc ms kc ks : Nat} {x0 x1 x2 x3 x4 x5 z0 : Int32} {pn ps px py pt xl xh yl yh fl fr bl br lo tl : Int32} {a1 a2 a3 a4 a5 a6 a7 a8 a9 a10 a11 a12 a13 a14 a15 a16 a17 a18 a19 a20 a21 a22 a23 a24 a25 : Nat → Int32} (K1 : ∀ c, c < 6 → a1 c = nI 1) (K2 : ∀ c, c < 6 → a2 (4 * c) = nI c)
    (K : ∀ c, c < 6 → a4 c = 0) (K3 : a3 0 = 0) (h7 : z0 = 0 ↔ (x0 < 0 ∨ ¬ x0 < 6)) (H : post 1 ()) :
    wL_lawOf_23 post mc ms x0 x1 x2 x3 x4 x5 z0 kc ks 1 0 pn ps px py pt xl xh yl yh fl fr bl br lo tl a1 a2 a3 a4 a5 a6 a7 a8 a9 a10 a11 a12 a13 a14 a15 a16 a17 a18 a19 a20 a21 a22 a23 a24 a25 := by
  unfold wL_lawOf_23
  refine gw_Lsize 4 (by omega) ?_
  refine gw_Lsize 8 (by omega) ?_
  refine gw_rule K1 K2 (fun y => ?_) (fun y0 y6 hs => ?_) (fun k a1 a2 RS R y0 y6 hs P hp => ?_)
  · exact br_t (h7.mpr y) (gw_68 (gw_P1 K1 K2) K K3 (fun _ => gw_pl1) h7 rfl rfl H)
  · refine br_f (gw_n7 h7 y0 y6) (br_f ?_ (gw_68 (gw_P1 K1 K2) K K3 (fun _ => gw_pl1) h7 rfl rfl H))
    rw [hs]
    show ¬ (0 : Int32) ≤ -1
    decide
  · have hk4 : k ≤ 4 := by
      obtain ⟨_, _, _, h, _⟩ := gw_sI_some hs
      exact h
    have e8 : gw_an 0 (gw_sI 4 x1) = nI k := by rw [hs]; rfl
    refine br_f (gw_n7 h7 y0 y6) (br_t ?_ (gw_68 P K K3 (fun t => ?_) h7 rfl e8.symm H))
    · rw [e8]
      exact nI_pos' (by omega)
    · rcases t with t | t | ⟨t1, t2⟩
      · exact absurd t (gw_n7 h7 y0 y6)
      · rw [e8] at t
        exact absurd t (nI_pos (by omega))
      · rw [e8] at t1
        exact hp ((nI_eq (b := 1) (by omega) (by decide)).mp t1) t2
theorem gw_22 {post : Int32 → St0 → Prop} {mc ms kc ks : Nat} {x0 x1 x2 x3 x4 x5 : Int32} {pn ps px py pt xl xh yl yh fl fr bl br lo tl : Int32} {a1 a2 a3 a4 a5 a6 a7 a8 a9 a10 a11 a12 a13 a14 a15 a16 a17 a18 a19 a20 a21 a22 a23 a24 a25 : Nat → Int32} (K1 : ∀ c, c < 6 → a1 c = nI 1) (K2 : ∀ c, c < 6 → a2 (4 * c) = nI c)
    (K : ∀ c, c < 6 → a4 c = 0) (K3 : a3 0 = 0) (h7 : x0 < 0 ∨ ¬ x0 < 6) (H : post 1 ()) :
    wL_lawOf_22 post mc ms x0 x1 x2 x3 x4 x5 kc ks 1 0 pn ps px py pt xl xh yl yh fl fr bl br lo tl a1 a2 a3 a4 a5 a6 a7 a8 a9 a10 a11 a12 a13 a14 a15 a16 a17 a18 a19 a20 a21 a22 a23 a24 a25 := by
  unfold wL_lawOf_22
  exact gw_23 K1 K2 K K3 ⟨fun _ => h7, fun _ => rfl⟩ H
theorem gw_5 {p0 : Int32} (h0 : ¬ p0 < 0) : 5 < p0 ↔ ¬ p0 < 6 := by
  obtain ⟨q, hq, rfl⟩ := nI_of h0
  rw [show (5 : Int32) = nI 5 from rfl, show (6 : Int32) = nI 6 from rfl, nI_ltI (by decide) hq, nI_ltI hq (by decide)]
  omega
theorem gw_lawOf {post : Int32 → St0 → Prop} {p0 p1 p2 p3 p4 p5 : Int32} (H : post 1 ()) : wpL_lawOf post 26 2566 () p0 p1 p2 p3 p4 p5 := by
  unfold wpL_lawOf
  refine And.intro (by omega) (And.intro (by omega) ⟨25, 2524, by omega, by omega, ?_⟩)
  refine gw_init (by omega) (by omega) (fun a1 a2 K1 K2 => ?_)
  refine br_c (fun y => ?_) (fun y0 => br_c (fun y => ?_) (fun y5 => ?_))
  · exact gw_22 K1 K2 (fun _ _ => rfl) rfl (Or.inl y) H
  · exact gw_22 K1 K2 (fun _ _ => rfl) rfl (Or.inr ((gw_5 y0).mp y)) H
  · refine gw_23 K1 K2 (fun _ _ => rfl) rfl ⟨fun t => absurd t (by decide), fun t => ?_⟩ H
    rcases t with t | t
    · exact absurd t y0
    · exact absurd ((gw_5 y0).mpr t) y5
theorem gw_cell {post : Int32 → Prop} {L : Nat} {xs : Nat → Int32} (hL : L ≤ 6) (j : Nat) (hj : j < 6) (H : ∀ r, post r) : wpL_cellAt post L xs () (nI j) :=
  pk_le L j (fun _ => H _) (fun z => ⟨pk_in j L z, H _⟩)
end
section
theorem i_vc (xs : Nat → Int32) (L : Nat) (hL : L ≤ 6) : wpL_law (fun r => r = 1) L xs := by
  unfold wpL_law
  refine gw_cell hL 0 (by omega) (fun r1 => ?_)
  refine gw_cell hL 1 (by omega) (fun r2 => ?_)
  refine gw_cell hL 2 (by omega) (fun r3 => ?_)
  refine gw_cell hL 3 (by omega) (fun r4 => ?_)
  refine gw_cell hL 4 (by omega) (fun r5 => ?_)
  refine gw_cell hL 5 (by omega) (fun r6 => ?_)
  exact ⟨26, 2566, by omega, by omega, gw_lawOf rfl⟩
end
