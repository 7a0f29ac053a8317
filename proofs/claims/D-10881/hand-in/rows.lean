section
/-! counting: how many of the numbers below n are kept, and where each begins -/
def zf_cnt (k : Nat → Bool) : Nat → Nat
  | 0 => 0
  | n + 1 => zf_cnt k n + (if k n = true then 1 else 0)
theorem zf_cT {k : Nat → Bool} {n : Nat} (h : k n = true) : zf_cnt k (n + 1) = zf_cnt k n + 1 := by
  show zf_cnt k n + (if k n = true then 1 else 0) = _
  rw [if_pos h]
theorem zf_cF {k : Nat → Bool} {n : Nat} (h : k n = false) : zf_cnt k (n + 1) = zf_cnt k n := by
  show zf_cnt k n + (if k n = true then 1 else 0) = _
  rw [if_neg (by rw [h]; decide)]
  rfl
theorem zf_cS (k : Nat → Bool) (n : Nat) : zf_cnt k n ≤ zf_cnt k (n + 1) ∧ zf_cnt k (n + 1) ≤ zf_cnt k n + 1 := by
  cases h : k n
  · rw [zf_cF h]; omega
  · rw [zf_cT h]; omega
theorem zf_cLe (k : Nat → Bool) (n : Nat) : zf_cnt k n ≤ n := by
  induction n with
  | zero => exact Nat.le_refl 0
  | succ n ih =>
    have := (zf_cS k n).2
    omega
theorem zf_cM (k : Nat → Bool) {a b : Nat} (h : a ≤ b) : zf_cnt k a ≤ zf_cnt k b := by
  induction h with
  | refl => exact Nat.le_refl _
  | step _ ih => exact Nat.le_trans ih (zf_cS k _).1
theorem zf_cL {k : Nat → Bool} {a b : Nat} (ha : k a = true) (h : a < b) : zf_cnt k a < zf_cnt k b := by
  have h1 := zf_cM k (show a + 1 ≤ b from h)
  rw [zf_cT ha] at h1
  omega
theorem zf_cI {k : Nat → Bool} {a b : Nat} (h : zf_cnt k a < zf_cnt k b) : a < b := by
  rcases Nat.lt_or_ge a b with z | z
  · exact z
  · have := zf_cM k z
    omega
theorem zf_cE {k : Nat → Bool} {a b : Nat} (ha : k a = true) (hb : k b = true) (h : zf_cnt k a = zf_cnt k b) : a = b := by
  rcases Nat.lt_trichotomy a b with z | z | z
  · have := zf_cL ha z
    omega
  · exact z
  · have := zf_cL hb z
    omega
theorem zf_cSur (k : Nat → Bool) {i : Nat} (n : Nat) (h : i < zf_cnt k n) : ∃ l, l < n ∧ k l = true ∧ zf_cnt k l = i := by
  induction n with
  | zero => exact absurd h (Nat.not_lt_zero i)
  | succ n ih =>
    rcases Nat.lt_or_ge i (zf_cnt k n) with z | z
    · obtain ⟨l, h1, h2, h3⟩ := ih z
      exact ⟨l, by omega, h2, h3⟩
    · cases e : k n
      · rw [zf_cF e] at h
        omega
      · rw [zf_cT e] at h
        exact ⟨n, by omega, e, by omega⟩
theorem zf_cAll {k : Nat → Bool} (n : Nat) (h : ∀ l, l < n → k l = true) : zf_cnt k n = n := by
  induction n with
  | zero => rfl
  | succ n ih => rw [zf_cT (h n (by omega)), ih (fun l hl => h l (by omega))]
theorem zf_cNo {k : Nat → Bool} (n : Nat) (h : ∀ l, l < n → k l = false) : zf_cnt k n = 0 := by
  induction n with
  | zero => rfl
  | succ n ih => rw [zf_cF (h n (by omega)), ih (fun l hl => h l (by omega))]
/-- exactly one is kept -/
theorem zf_cOne {k : Nat → Bool} {t : Nat} (n : Nat) (h1 : k t = true) (h : ∀ l, l < n → l ≠ t → k l = false) : zf_cnt k n = if t < n then 1 else 0 := by
  induction n with
  | zero => rfl
  | succ n ih =>
    have e := ih (fun l hl => h l (by omega))
    by_cases z : n = t
    · rw [z] at e ⊢
      rw [zf_cT h1, e, if_neg (by omega), if_pos (by omega)]
    · rw [zf_cF (h n (by omega) z), e]
      by_cases y : t < n
      · rw [if_pos y, if_pos (by omega)]
      · rw [if_neg y, if_neg (by omega)]
def zf_off (k : Nat → Bool) (w : Nat → Nat) : Nat → Nat
  | 0 => 0
  | n + 1 => zf_off k w n + (if k n = true then w n else 0)
theorem zf_oT {k : Nat → Bool} {w : Nat → Nat} {n : Nat} (h : k n = true) : zf_off k w (n + 1) = zf_off k w n + w n := by
  show zf_off k w n + (if k n = true then w n else 0) = _
  rw [if_pos h]
theorem zf_oF {k : Nat → Bool} {w : Nat → Nat} {n : Nat} (h : k n = false) : zf_off k w (n + 1) = zf_off k w n := by
  show zf_off k w n + (if k n = true then w n else 0) = _
  rw [if_neg (by rw [h]; decide)]
  rfl
theorem zf_oM (k : Nat → Bool) (w : Nat → Nat) {a b : Nat} (h : a ≤ b) : zf_off k w a ≤ zf_off k w b := by
  induction h with
  | refl => exact Nat.le_refl _
  | step _ ih => exact Nat.le_trans ih (Nat.le_add_right _ _)
theorem zf_oL {k : Nat → Bool} {w : Nat → Nat} {a b : Nat} (ha : k a = true) (h : a < b) : zf_off k w a + w a ≤ zf_off k w b := by
  have h1 := zf_oM k w (show a + 1 ≤ b from h)
  rw [zf_oT ha] at h1
  exact h1
theorem zf_oB {k : Nat → Bool} {w : Nat → Nat} (hw : ∀ l, w l ≤ 6) (n : Nat) : zf_off k w n ≤ 6 * n := by
  induction n with
  | zero => exact Nat.le_refl 0
  | succ n ih =>
    have := hw n
    cases e : k n
    · rw [zf_oF e]; omega
    · rw [zf_oT e]; omega
theorem zf_oE1 {k : Nat → Bool} {w : Nat → Nat} {a b : Nat} (h : a ≤ b) (e : zf_cnt k a = zf_cnt k b) : zf_off k w a = zf_off k w b := by
  induction h with
  | refl => rfl
  | @step m hm ih =>
    cases z : k m
    · rw [zf_cF z] at e
      rw [zf_oF z]
      exact ih e
    · rw [zf_cT z] at e
      have := zf_cM k hm
      omega
theorem zf_oE {k : Nat → Bool} {w : Nat → Nat} {a b : Nat} (e : zf_cnt k a = zf_cnt k b) : zf_off k w a = zf_off k w b := by
  rcases Nat.le_total a b with h | h
  · exact zf_oE1 h e
  · exact (zf_oE1 h e.symm).symm
theorem zf_oAll {k : Nat → Bool} {w : Nat → Nat} {c : Nat} (n : Nat) (h : ∀ l, l < n → k l = true ∧ w l = c) : zf_off k w n = n * c := by
  induction n with
  | zero => rw [Nat.zero_mul]; rfl
  | succ n ih => rw [zf_oT (h n (by omega)).1, ih (fun l hl => h l (by omega)), (h n (by omega)).2, Nat.succ_mul]
theorem zf_oNo {k : Nat → Bool} {w : Nat → Nat} (n : Nat) (h : ∀ l, l < n → k l = false ∨ w l = 0) : zf_off k w n = 0 := by
  induction n with
  | zero => rfl
  | succ n ih =>
    have e := ih (fun l hl => h l (by omega))
    rcases h n (by omega) with z | z
    · rw [zf_oF z, e]
    · cases y : k n
      · rw [zf_oF y, e]
      · rw [zf_oT y, e, z]
theorem zf_oOne {k : Nat → Bool} {w : Nat → Nat} {t : Nat} (n : Nat) (h1 : k t = true) (h : ∀ l, l < n → l ≠ t → k l = false ∨ w l = 0) : zf_off k w n = if t < n then w t else 0 := by
  induction n with
  | zero => rfl
  | succ n ih =>
    have e := ih (fun l hl => h l (by omega))
    by_cases z : n = t
    · rw [z] at e ⊢
      rw [zf_oT h1, e, if_neg (by omega), if_pos (by omega), Nat.zero_add]
    · have e2 : zf_off k w (n + 1) = zf_off k w n := by
        rcases h n (by omega) z with y | y
        · rw [zf_oF y]
        · cases x : k n
          · rw [zf_oF x]
          · rw [zf_oT x, y, Nat.add_zero]
      rw [e2, e]
      by_cases y : t < n
      · rw [if_pos y, if_pos (by omega)]
      · rw [if_neg y, if_neg (by omega)]
def zf_any (v : Nat → Int32) : Nat → Bool
  | 0 => false
  | n + 1 => zf_any v n || decide (v n ≠ 0)
theorem zf_an0 {v : Nat → Int32} {n : Nat} (h : zf_any v n = false) (z : v n = 0) : zf_any v (n + 1) = false := by
  show (zf_any v n || decide (v n ≠ 0)) = false
  rw [h, decide_eq_false (fun y => y z)]
  rfl
theorem zf_an1 {v : Nat → Int32} {n : Nat} (z : ¬ v n = 0) : zf_any v (n + 1) = true := by
  show (zf_any v n || decide (v n ≠ 0)) = true
  rw [decide_eq_true z, Bool.or_true]
theorem zf_an2 {v : Nat → Int32} {n : Nat} (h : zf_any v n = true) : zf_any v (n + 1) = true := by
  show (zf_any v n || decide (v n ≠ 0)) = true
  rw [h, Bool.true_or]
theorem zf_anT {v : Nat → Int32} {n p : Nat} (hp : p < n) (z : ¬ v p = 0) : zf_any v n = true := by
  induction n with
  | zero => omega
  | succ n ih =>
    by_cases e : p = n
    · rw [e] at z
      exact zf_an1 z
    · exact zf_an2 (ih (by omega))
theorem zf_anF {v : Nat → Int32} {n p : Nat} (h : zf_any v n = false) (hp : p < n) : v p = 0 := by
  by_cases z : v p = 0
  · exact z
  · rw [zf_anT hp z] at h
    exact absurd h (by decide)
theorem zf_anZ {v : Nat → Int32} (n : Nat) (h : ∀ p, p < n → v p = 0) : zf_any v n = false := by
  induction n with
  | zero => rfl
  | succ n ih => exact zf_an0 (ih (fun p hp => h p (by omega))) (h n (by omega))
end
section
/-! a slot: its shape, its lines and places, and what its packed form holds -/
def zf_B (b : Bool) : Int32 := if b = true then 1 else 0
def zf_C (rk n m f : Nat) : Nat := if rk < 2 then 1 else if f < 4 then n else m
def zf_W (rk n m f : Nat) : Nat := if rk < 2 then n else if f < 4 then m else n
def zf_ix (rk f l p : Nat) : Nat := if rk < 2 then 6 * p else if f < 4 then 6 * l + p else 6 * p + l
def zf_li (rk f i j : Nat) : Nat := if rk < 2 then 0 else if f < 4 then i else j
def zf_pi (rk f i j : Nat) : Nat := if rk < 2 then i else if f < 4 then j else i
def zf_sl (rk f : Nat) : Bool := decide (rk = 2) && decide (f / 2 % 2 = 1)
def zf_sp (rk f : Nat) : Bool := decide (0 < rk) && decide (f % 2 = 1)
def zf_sh (rk n m f : Nat) : Prop := (rk = 0 ∧ n = 1 ∧ m = 1 ∧ f = 0) ∨ (rk = 1 ∧ 1 ≤ n ∧ n ≤ 6 ∧ m = 1 ∧ f ≤ 1) ∨ (rk = 2 ∧ 1 ≤ n ∧ n ≤ 6 ∧ 1 ≤ m ∧ m ≤ 6 ∧ f ≤ 7)
theorem zf_shB {rk n m f : Nat} (h : zf_sh rk n m f) : rk ≤ 2 ∧ 1 ≤ n ∧ n ≤ 6 ∧ 1 ≤ m ∧ m ≤ 6 ∧ f ≤ 7 := by
  unfold zf_sh at h
  omega
theorem zf_shC {rk n m f : Nat} (h : zf_sh rk n m f) : 1 ≤ zf_C rk n m f ∧ zf_C rk n m f ≤ 6 := by
  have := zf_shB h
  unfold zf_C
  split
  · omega
  · split <;> omega
theorem zf_shW {rk n m f : Nat} (h : zf_sh rk n m f) : 1 ≤ zf_W rk n m f ∧ zf_W rk n m f ≤ 6 := by
  have := zf_shB h
  unfold zf_W
  split
  · omega
  · split <;> omega
theorem zf_ixB {rk n m f l p : Nat} (h : zf_sh rk n m f) (hl : l < 6) (hp : p < 6) : zf_ix rk f l p < 36 := by
  unfold zf_ix
  split
  · omega
  · split <;> omega
/-- the line and the place of (i, j) -/
theorem zf_liB {rk n m f i j : Nat} (h : zf_sh rk n m f) (hi : i < n) (hj : j < m) : zf_li rk f i j < zf_C rk n m f ∧ zf_pi rk f i j < zf_W rk n m f := by
  unfold zf_li zf_pi zf_C zf_W
  split
  · omega
  · split <;> omega
/-- only (i, j) is written at 6 i + j -/
theorem zf_ixI {rk n m f i j l p : Nat} (h : zf_sh rk n m f) (hi : i < n) (hj : j < m) (hl : l < zf_C rk n m f) (hp : p < zf_W rk n m f) : zf_ix rk f l p = 6 * i + j ↔ l = zf_li rk f i j ∧ p = zf_pi rk f i j := by
  have hb := zf_shB h
  unfold zf_sh at h
  unfold zf_C at hl
  unfold zf_W at hp
  unfold zf_ix zf_li zf_pi
  by_cases h2 : rk < 2
  · rw [if_pos h2] at hl hp
    rw [if_pos h2, if_pos h2, if_pos h2]
    omega
  · rw [if_neg h2] at hl hp
    rw [if_neg h2, if_neg h2, if_neg h2]
    by_cases h4 : f < 4
    · rw [if_pos h4] at hl hp
      rw [if_pos h4, if_pos h4, if_pos h4]
      omega
    · rw [if_neg h4] at hl hp
      rw [if_neg h4, if_neg h4, if_neg h4]
      omega
def zf_hd (s rk n m f : Nat) (a1 a2 a3 a4 : Nat → Int32) : Prop := a1 s = nI rk ∧ a2 s = nI n ∧ a3 s = nI m ∧ a4 s = nI f
def zf_q (sp : Bool) (v : Nat → Int32) (p : Nat) : Bool := !sp || decide (v p ≠ 0)
def zf_k (sl : Bool) (W : Nat) (V : Nat → Nat → Int32) (l : Nat) : Bool := !sl || zf_any (V l) W
def zf_w (sp : Bool) (W : Nat) (V : Nat → Nat → Int32) (l : Nat) : Nat := zf_cnt (zf_q sp (V l)) W
theorem zf_qN {v : Nat → Int32} {p : Nat} : zf_q false v p = true := rfl
theorem zf_qT {sp : Bool} {v : Nat → Int32} {p : Nat} (h : ¬ v p = 0) : zf_q sp v p = true := by
  unfold zf_q
  rw [decide_eq_true h, Bool.or_true]
theorem zf_qZ {v : Nat → Int32} {p : Nat} (h : v p = 0) : zf_q true v p = false := by
  unfold zf_q
  rw [decide_eq_false (fun y => y h)]
  rfl
theorem zf_qF {sp : Bool} {v : Nat → Int32} {p : Nat} (h : zf_q sp v p = false) : v p = 0 := by
  by_cases z : v p = 0
  · exact z
  · rw [zf_qT z] at h
    exact absurd h (by decide)
theorem zf_kN {W : Nat} {V : Nat → Nat → Int32} {l : Nat} : zf_k false W V l = true := rfl
theorem zf_kE {W : Nat} {V : Nat → Nat → Int32} {l : Nat} : zf_k true W V l = zf_any (V l) W := rfl
theorem zf_kF {sl : Bool} {W : Nat} {V : Nat → Nat → Int32} {l p : Nat} (h : zf_k sl W V l = false) (hp : p < W) : V l p = 0 := by
  cases sl
  · exact absurd h (by rw [zf_kN]; decide)
  · rw [zf_kE] at h
    exact zf_anF h hp
theorem zf_wB {sp : Bool} {W : Nat} {V : Nat → Nat → Int32} (hW : W ≤ 6) (l : Nat) : zf_w sp W V l ≤ 6 := Nat.le_trans (zf_cLe _ W) hW
def zf_ln (s o : Nat) (q : Nat → Bool) (v a8 a9 : Nat → Int32) (P : Nat) : Prop := ∀ p, p < P → q p = true → a8 (36 * s + (o + zf_cnt q p)) = nI p ∧ a9 (36 * s + (o + zf_cnt q p)) = v p
def zf_bd (s W : Nat) (sl sp : Bool) (V : Nat → Nat → Int32) (a6 a7 a8 a9 : Nat → Int32) (L : Nat) : Prop := ∀ l, l < L → zf_k sl W V l = true → a6 (6 * s + zf_cnt (zf_k sl W V) l) = nI l ∧ a7 (7 * s + zf_cnt (zf_k sl W V) l) = nI (zf_off (zf_k sl W V) (zf_w sp W V) l) ∧ zf_ln s (zf_off (zf_k sl W V) (zf_w sp W V) l) (zf_q sp (V l)) (V l) a8 a9 W
def zf_rep (s C W : Nat) (sl sp : Bool) (V : Nat → Nat → Int32) (a5 a6 a7 a8 a9 : Nat → Int32) : Prop := a5 s = nI (zf_cnt (zf_k sl W V) C) ∧ a7 (7 * s + zf_cnt (zf_k sl W V) C) = nI (zf_off (zf_k sl W V) (zf_w sp W V) C) ∧ zf_bd s W sl sp V a6 a7 a8 a9 C
def zf_slot (s rk n m f : Nat) (V : Nat → Nat → Int32) (a1 a2 a3 a4 a5 a6 a7 a8 a9 : Nat → Int32) : Prop := zf_hd s rk n m f a1 a2 a3 a4 ∧ zf_rep s (zf_C rk n m f) (zf_W rk n m f) (zf_sl rk f) (zf_sp rk f) V a5 a6 a7 a8 a9
/-- what is not of the slot stays -/
def zf_fb (s : Nat) (a5 a6 a7 a8 a9 b5 b6 b7 b8 b9 : Nat → Int32) : Prop := (∀ j, j ≠ s → b5 j = a5 j) ∧ (∀ j, (j < 6 * s ∨ 6 * s + 6 ≤ j) → b6 j = a6 j) ∧ (∀ j, (j < 7 * s ∨ 7 * s + 7 ≤ j) → b7 j = a7 j) ∧ (∀ j, (j < 36 * s ∨ 36 * s + 36 ≤ j) → b8 j = a8 j ∧ b9 j = a9 j)
def zf_fh (s : Nat) (a1 a2 a3 a4 b1 b2 b3 b4 : Nat → Int32) : Prop := ∀ j, j ≠ s → b1 j = a1 j ∧ b2 j = a2 j ∧ b3 j = a3 j ∧ b4 j = a4 j
theorem zf_bdS {s W i o k : Nat} {sl sp : Bool} {V : Nat → Nat → Int32} {b6 b7 b8 b9 c8 c9 : Nat → Int32} (hk : zf_k sl W V i = true) (ho : o = zf_off (zf_k sl W V) (zf_w sp W V) i) (hc : k = zf_cnt (zf_k sl W V) i) (hW : W ≤ 6)
    (h : zf_bd s W sl sp V b6 b7 b8 b9 i) (hln : zf_ln s o (zf_q sp (V i)) (V i) c8 c9 W) (hfr : ∀ j, (j < 36 * s + o ∨ 36 * s + 36 ≤ j) → c8 j = b8 j ∧ c9 j = b9 j) :
    zf_bd s W sl sp V (upd b6 (6 * s + k) (nI i)) (upd b7 (7 * s + k) (nI o)) c8 c9 (i + 1) := by
  intro l hl hkl
  by_cases e : l = i
  · subst e
    refine ⟨?_, ?_, ?_⟩
    · rw [← hc]; exact pk_us
    · rw [← hc, ← ho]; exact pk_us
    · rw [← ho]; exact hln
  · have hli : l < i := by omega
    have hck := zf_cL hkl hli
    have hoo := zf_oL (w := zf_w sp W V) hkl hli
    obtain ⟨h1, h2, h3⟩ := h l hli hkl
    refine ⟨?_, ?_, ?_⟩
    · rw [pk_un (by omega)]; exact h1
    · rw [pk_un (by omega)]; exact h2
    · intro p hp hq
      have hcp : zf_cnt (zf_q sp (V l)) p < zf_w sp W V l := zf_cL hq hp
      have hf := hfr (36 * s + (zf_off (zf_k sl W V) (zf_w sp W V) l + zf_cnt (zf_q sp (V l)) p)) (Or.inl (by omega))
      rw [hf.1, hf.2]
      exact h3 p hp hq
theorem zf_bdF {s W i : Nat} {sl sp : Bool} {V : Nat → Nat → Int32} {b6 b7 b8 b9 : Nat → Int32} (hk : zf_k sl W V i = false) (h : zf_bd s W sl sp V b6 b7 b8 b9 i) : zf_bd s W sl sp V b6 b7 b8 b9 (i + 1) := by
  intro l hl hkl
  by_cases e : l = i
  · rw [e, hk] at hkl
    exact absurd hkl (by decide)
  · exact h l (by omega) hkl
/-- another slot's writing doesn't touch this one -/
theorem zf_slotF {t s rk n m f : Nat} {V : Nat → Nat → Int32} {a1 a2 a3 a4 a5 a6 a7 a8 a9 b1 b2 b3 b4 b5 b6 b7 b8 b9 : Nat → Int32} (sh : zf_sh rk n m f) (hts : t ≠ s) (hh : zf_fh s a1 a2 a3 a4 b1 b2 b3 b4) (hb : zf_fb s a5 a6 a7 a8 a9 b5 b6 b7 b8 b9)
    (h : zf_slot t rk n m f V a1 a2 a3 a4 a5 a6 a7 a8 a9) : zf_slot t rk n m f V b1 b2 b3 b4 b5 b6 b7 b8 b9 := by
  obtain ⟨hd, h5, h7, hbd⟩ := h
  obtain ⟨e1, e2, e3, e4⟩ := hh t hts
  obtain ⟨f5, f6, f7, f8⟩ := hb
  have hC := zf_shC sh
  have hW := zf_shW sh
  have c0 := zf_cLe (zf_k (zf_sl rk f) (zf_W rk n m f) V) (zf_C rk n m f)
  refine ⟨⟨?_, ?_, ?_, ?_⟩, ?_, ?_, ?_⟩
  · rw [e1]; exact hd.1
  · rw [e2]; exact hd.2.1
  · rw [e3]; exact hd.2.2.1
  · rw [e4]; exact hd.2.2.2
  · rw [f5 t hts]; exact h5
  · rw [f7 _ (by omega)]; exact h7
  · intro l hl hk
    obtain ⟨g1, g2, g3⟩ := hbd l hl hk
    have c1 := zf_cL hk hl
    have o1 := zf_oL (w := zf_w (zf_sp rk f) (zf_W rk n m f) V) hk hl
    have o2 := zf_oB (k := zf_k (zf_sl rk f) (zf_W rk n m f) V) (zf_wB (sp := zf_sp rk f) (V := V) hW.2) (zf_C rk n m f)
    refine ⟨?_, ?_, ?_⟩
    · rw [f6 _ (by omega)]; exact g1
    · rw [f7 _ (by omega)]; exact g2
    · intro p hp hq
      have hcp : zf_cnt (zf_q (zf_sp rk f) (V l)) p < zf_w (zf_sp rk f) (zf_W rk n m f) V l := zf_cL hq hp
      have g := f8 (36 * t + (zf_off (zf_k (zf_sl rk f) (zf_W rk n m f) V) (zf_w (zf_sp rk f) (zf_W rk n m f) V) l + zf_cnt (zf_q (zf_sp rk f) (V l)) p)) (by omega)
      rw [g.1, g.2]
      exact g3 p hp hq
/-- the k-th line that is there -/
theorem zf_repL {s C W c : Nat} {sl sp : Bool} {V : Nat → Nat → Int32} {a5 a6 a7 a8 a9 : Nat → Int32} (h : zf_rep s C W sl sp V a5 a6 a7 a8 a9) (hc : c < zf_cnt (zf_k sl W V) C) :
    ∃ l, l < C ∧ zf_k sl W V l = true ∧ zf_cnt (zf_k sl W V) l = c ∧ a6 (6 * s + c) = nI l := by
  obtain ⟨l, h1, h2, h3⟩ := zf_cSur _ C hc
  have g := (h.2.2 l h1 h2).1
  rw [h3] at g
  exact ⟨l, h1, h2, h3, g⟩
/-- where a line ends -/
theorem zf_repE {s C W l : Nat} {sl sp : Bool} {V : Nat → Nat → Int32} {a5 a6 a7 a8 a9 : Nat → Int32} (h : zf_rep s C W sl sp V a5 a6 a7 a8 a9) (hl : l < C) (hk : zf_k sl W V l = true) :
    a7 (7 * s + zf_cnt (zf_k sl W V) l + 1) = nI (zf_off (zf_k sl W V) (zf_w sp W V) l + zf_w sp W V l) := by
  have e1 : zf_off (zf_k sl W V) (zf_w sp W V) (l + 1) = _ := zf_oT hk
  have e2 : zf_cnt (zf_k sl W V) (l + 1) = _ := zf_cT hk
  have e3 := zf_cL hk hl
  rw [← e1]
  by_cases z : zf_cnt (zf_k sl W V) l + 1 = zf_cnt (zf_k sl W V) C
  · rw [Nat.add_assoc, z, h.2.1]
    exact congrArg nI (zf_oE (by omega))
  · obtain ⟨t, h1, h2, h3⟩ := zf_cSur (zf_k sl W V) (i := zf_cnt (zf_k sl W V) l + 1) C (by omega)
    have g := (h.2.2 t h1 h2).2.1
    rw [h3] at g
    rw [Nat.add_assoc, g]
    exact congrArg nI (zf_oE (by omega))
theorem zf_lnL {s o W e : Nat} {q : Nat → Bool} {v a8 a9 : Nat → Int32} (h : zf_ln s o q v a8 a9 W) (h1 : o ≤ e) (h2 : e < o + zf_cnt q W) :
    ∃ p, p < W ∧ q p = true ∧ o + zf_cnt q p = e ∧ a8 (36 * s + e) = nI p ∧ a9 (36 * s + e) = v p := by
  obtain ⟨p, g1, g2, g3⟩ := zf_cSur q (i := e - o) W (by omega)
  have e1 : o + zf_cnt q p = e := by omega
  have g := h p g1 g2
  rw [e1] at g
  exact ⟨p, g1, g2, e1, g.1, g.2⟩
theorem zf_lnS {s o P e : Nat} {q : Nat → Bool} {v a8 a9 : Nat → Int32} (hq : q P = true) (he : e = o + zf_cnt q P) (h : zf_ln s o q v a8 a9 P) : zf_ln s o q v (upd a8 (36 * s + e) (nI P)) (upd a9 (36 * s + e) (v P)) (P + 1) := by
  intro p hp hqp
  by_cases z : p = P
  · subst z
    rw [← he]
    exact ⟨pk_us, pk_us⟩
  · have := zf_cL hqp (show p < P by omega)
    rw [pk_un (by omega), pk_un (by omega)]
    exact h p (by omega) hqp
theorem zf_lnF {s o P : Nat} {q : Nat → Bool} {v a8 a9 : Nat → Int32} (hq : q P = false) (h : zf_ln s o q v a8 a9 P) : zf_ln s o q v a8 a9 (P + 1) := by
  intro p hp hqp
  by_cases z : p = P
  · rw [z, hq] at hqp
    exact absurd hqp (by decide)
  · exact h p (by omega) hqp
end
section
/-! the methods without loops: what a slot's shape answers -/
section
variable {g1 g2 g3 g4 : Int32} {a1 a2 a3 a4 a5 a6 a7 a8 a9 a10 a11 a12 a13 a14 a15 a16 a17 a18 a19 a20 a21 a22 a23 a24 a25 a26 a27 a28 : Nat → Int32}
theorem zf_m6 (a : Nat) : 6 * nI a = nI (6 * a) := by
  rw [show (6 : Int32) = nI 6 from rfl, pk_mul]
theorem zf_i6 (a b : Nat) : 6 * nI a + nI b = nI (6 * a + b) := by
  rw [show (6 : Int32) = nI 6 from rfl, pk_mul, nI_add]
theorem zf_i7 (a b : Nat) : 7 * nI a + nI b = nI (7 * a + b) := by
  rw [show (7 : Int32) = nI 7 from rfl, pk_mul, nI_add]
theorem zf_i36 (a b : Nat) : 36 * nI a + nI b = nI (36 * a + b) := by
  rw [show (36 : Int32) = nI 36 from rfl, pk_mul, nI_add]
theorem zf_nb (b : Bool) : narrow .boolean (.int (zf_B b)) = .int (zf_B b) := by
  cases b <;> rfl
theorem zf_cl {s : Nat} (hs : s < 13) : (nI s).toNatClampNeg = s := nI_clamp (by omega)
theorem zf_clear {post : St2 → Prop} (H : ∀ b : Nat → Int32, (∀ k, k < 36 → b k = 0) → post (g1, g2, g3, g4, a1, a2, a3, a4, a5, a6, a7, a8, a9, a10, a11, a12, a13, a14, a15, a16, a17, b, a19, a20, a21, a22, a23, a24, a25, a26, a27, a28)) : wpX_clearPlain post (g1, g2, g3, g4, a1, a2, a3, a4, a5, a6, a7, a8, a9, a10, a11, a12, a13, a14, a15, a16, a17, a18, a19, a20, a21, a22, a23, a24, a25, a26, a27, a28) :=
  pk_loop (fun n i s => wX_clearPlain_2 post g1 g2 g3 g4 n (nI i) a1 a2 a3 a4 a5 a6 a7 a8 a9 a10 a11 a12 a13 a14 a15 a16 a17 s a19 a20 a21 a22 a23 a24 a25 a26 a27 a28) (fun i s => ∀ k, k < i → s k = 0) 36 0 a18 (by omega) (fun k hk => absurd hk (by omega))
    (fun n s h => pk_le 36 36 (fun _ => H s h) (fun z => absurd z (by omega)))
    (fun n i s hi h hw => pk_le 36 i (fun z => absurd z (by omega)) (fun _ => ⟨pk_in i 36 hi, nm_e (nm_r (nI_1 i) (hw _ (by
      rw [nI_clamp (by omega)]
      intro k hk
      by_cases e : k = i
      · rw [e]; exact pk_us
      · rw [pk_un e]; exact h k (by omega))))⟩))
theorem zf_isTurned {post : Int32 → Prop} {s rk n m f : Nat} (hs : s < 13) (sh : zf_sh rk n m f) (hd : zf_hd s rk n m f a1 a2 a3 a4) (H0 : ¬ (rk = 2 ∧ 4 ≤ f) → post 0) (H1 : rk = 2 ∧ 4 ≤ f → post 1) : wpX_isTurned post (g1, g2, g3, g4, a1, a2, a3, a4, a5, a6, a7, a8, a9, a10, a11, a12, a13, a14, a15, a16, a17, a18, a19, a20, a21, a22, a23, a24, a25, a26, a27, a28) (nI s) := by
  have hb := zf_shB sh
  unfold wpX_isTurned
  dsimp only
  rw [zf_cl hs, hd.1, hd.2.2.2]
  exact ⟨pk_in s 13 hs, pk_eq rk 2 (fun z => ⟨pk_in s 13 hs, pk_lt f 4 (fun y => H0 (by omega)) (fun y => H1 ⟨z, y⟩)⟩) (fun z => H0 (by omega))⟩
theorem zf_lineCount {post : Int32 → Prop} {s rk n m f : Nat} (hs : s < 13) (sh : zf_sh rk n m f) (hd : zf_hd s rk n m f a1 a2 a3 a4) (H : post (nI (zf_C rk n m f))) : wpX_lineCount post (g1, g2, g3, g4, a1, a2, a3, a4, a5, a6, a7, a8, a9, a10, a11, a12, a13, a14, a15, a16, a17, a18, a19, a20, a21, a22, a23, a24, a25, a26, a27, a28) (nI s) := by
  have hb := zf_shB sh
  unfold zf_C at H
  unfold wpX_lineCount
  dsimp only
  rw [zf_cl hs, hd.1, hd.2.1, hd.2.2.1]
  refine ⟨pk_in s 13 hs, pk_le 2 rk (fun z => zf_isTurned hs sh hd (fun y => br_t rfl ⟨pk_in s 13 hs, ?_⟩) (fun y => br_f (by decide) ⟨pk_in s 13 hs, ?_⟩)) (fun z => ?_)⟩
  · rwa [if_neg (by omega), if_pos (by omega)] at H
  · rwa [if_neg (by omega), if_neg (by omega)] at H
  · rwa [if_pos (by omega)] at H
theorem zf_lineLength {post : Int32 → Prop} {s rk n m f : Nat} (hs : s < 13) (sh : zf_sh rk n m f) (hd : zf_hd s rk n m f a1 a2 a3 a4) (H : post (nI (zf_W rk n m f))) : wpX_lineLength post (g1, g2, g3, g4, a1, a2, a3, a4, a5, a6, a7, a8, a9, a10, a11, a12, a13, a14, a15, a16, a17, a18, a19, a20, a21, a22, a23, a24, a25, a26, a27, a28) (nI s) := by
  have hb := zf_shB sh
  unfold zf_W at H
  unfold wpX_lineLength
  dsimp only
  rw [zf_cl hs, hd.1, hd.2.1, hd.2.2.1]
  refine ⟨pk_in s 13 hs, pk_le 2 rk (fun z => zf_isTurned hs sh hd (fun y => br_t rfl ⟨pk_in s 13 hs, ?_⟩) (fun y => br_f (by decide) ⟨pk_in s 13 hs, ?_⟩)) (fun z => ⟨pk_in s 13 hs, ?_⟩)⟩
  · rwa [if_neg (by omega), if_pos (by omega)] at H
  · rwa [if_neg (by omega), if_neg (by omega)] at H
  · rwa [if_pos (by omega)] at H
theorem zf_and2 : ∀ f, f < 8 → (nI f &&& 2 = 0 ↔ ¬ f / 2 % 2 = 1) := by decide +kernel
theorem zf_and1 : ∀ f, f < 8 → (nI f &&& 1 = 0 ↔ ¬ f % 2 = 1) := by decide +kernel
theorem zf_skipsLines {post : Int32 → Prop} {s rk n m f : Nat} (hs : s < 13) (sh : zf_sh rk n m f) (hd : zf_hd s rk n m f a1 a2 a3 a4) (H : post (zf_B (zf_sl rk f))) : wpX_skipsLines post (g1, g2, g3, g4, a1, a2, a3, a4, a5, a6, a7, a8, a9, a10, a11, a12, a13, a14, a15, a16, a17, a18, a19, a20, a21, a22, a23, a24, a25, a26, a27, a28) (nI s) := by
  have hb := zf_shB sh
  unfold zf_sl at H
  unfold wpX_skipsLines
  dsimp only
  rw [zf_cl hs, hd.1, hd.2.2.2]
  refine ⟨pk_in s 13 hs, pk_eq rk 2 (fun z => ⟨pk_in s 13 hs, ek_if (zf_and2 f (by omega)) (fun y => ?_) (fun y => ?_)⟩) (fun z => ?_)⟩
  · rw [decide_eq_true z, decide_eq_false y] at H
    exact H
  · rw [decide_eq_true z, decide_eq_true (Decidable.not_not.mp y)] at H
    exact H
  · rw [decide_eq_false z] at H
    exact H
theorem zf_skipsPlaces {post : Int32 → Prop} {s rk n m f : Nat} (hs : s < 13) (sh : zf_sh rk n m f) (hd : zf_hd s rk n m f a1 a2 a3 a4) (H : post (zf_B (zf_sp rk f))) : wpX_skipsPlaces post (g1, g2, g3, g4, a1, a2, a3, a4, a5, a6, a7, a8, a9, a10, a11, a12, a13, a14, a15, a16, a17, a18, a19, a20, a21, a22, a23, a24, a25, a26, a27, a28) (nI s) := by
  have hb := zf_shB sh
  unfold zf_sp at H
  unfold wpX_skipsPlaces
  dsimp only
  rw [zf_cl hs, hd.1, hd.2.2.2]
  refine ⟨pk_in s 13 hs, pk_le rk 0 (fun z => ?_) (fun z => ⟨pk_in s 13 hs, ek_if (zf_and1 f (by omega)) (fun y => ?_) (fun y => ?_)⟩)⟩
  · rw [decide_eq_false (by omega)] at H
    exact H
  · rw [decide_eq_true z, decide_eq_false y] at H
    exact H
  · rw [decide_eq_true z, decide_eq_true (Decidable.not_not.mp y)] at H
    exact H
theorem zf_plainAt {post : Int32 → Prop} {s rk n m f l p : Nat} (hs : s < 13) (sh : zf_sh rk n m f) (hd : zf_hd s rk n m f a1 a2 a3 a4) (hl : l < 6) (hp : p < 6) (H : post (a18 (zf_ix rk f l p))) : wpX_plainAt post (g1, g2, g3, g4, a1, a2, a3, a4, a5, a6, a7, a8, a9, a10, a11, a12, a13, a14, a15, a16, a17, a18, a19, a20, a21, a22, a23, a24, a25, a26, a27, a28) (nI s) (nI l) (nI p) := by
  have hb := zf_shB sh
  unfold zf_ix at H
  unfold wpX_plainAt
  dsimp only
  rw [zf_cl hs, hd.1, zf_i6, zf_i6, zf_m6, nI_clamp (show 6 * l + p < 2 ^ 31 by omega), nI_clamp (show 6 * p + l < 2 ^ 31 by omega), nI_clamp (show 6 * p < 2 ^ 31 by omega)]
  refine ⟨pk_in s 13 hs, pk_le 2 rk (fun z => zf_isTurned hs sh hd (fun y => br_t rfl ⟨vp_in_nI (by omega) (by omega), ?_⟩) (fun y => br_f (by decide) ⟨vp_in_nI (by omega) (by omega), ?_⟩)) (fun z => ⟨vp_in_nI (by omega) (by omega), ?_⟩)⟩
  · rwa [if_neg (by omega), if_pos (by omega)] at H
  · rwa [if_neg (by omega), if_neg (by omega)] at H
  · rwa [if_pos (by omega)] at H
theorem zf_badReg {post : Int32 → Prop} {r : Int32} (H0 : ∀ s : Nat, s < 6 → r = nI s → post 0) (H1 : (r < 0 ∨ 5 < r) → post 1) : wpX_badRegister post (g1, g2, g3, g4, a1, a2, a3, a4, a5, a6, a7, a8, a9, a10, a11, a12, a13, a14, a15, a16, a17, a18, a19, a20, a21, a22, a23, a24, a25, a26, a27, a28) r := by
  unfold wpX_badRegister
  dsimp only
  refine br_c (fun z => H1 (Or.inl z)) (fun z => br_c (fun y => ?_) (fun y => H1 (Or.inr ?_)))
  · obtain ⟨j, hj, e⟩ := nI_of z
    rw [e] at y
    have := (nI_ltI (b := 6) hj (by omega)).mp y
    exact H0 j this e
  · rw [Int32.lt_iff_toInt_lt] at y ⊢
    have e6 : (6 : Int32).toInt = 6 := rfl
    have e5 : (5 : Int32).toInt = 5 := rfl
    omega
end
end
section
/-! packing -/
section
variable {g1 g2 g3 g4 : Int32} {a1 a2 a3 a4 a5 a6 a7 a8 a9 a10 a11 a12 a13 a14 a15 a16 a17 a18 a19 a20 a21 a22 a23 a24 a25 a26 a27 a28 : Nat → Int32}
theorem zf_47 {post : Int32 → St2 → Prop} {J : Int32 → Int32 → (Nat → Int32) → (Nat → Int32) → (Nat → Int32) → (Nat → Int32) → (Nat → Int32) → (Nat → Int32) → (Nat → Int32) → (Nat → Int32) → (Nat → Int32) → (Nat → Int32) → (Nat → Int32) → (Nat → Int32) → (Nat → Int32) → (Nat → Int32) → (Nat → Int32) → (Nat → Int32) → (Nat → Int32) → (Nat → Int32) → (Nat → Int32) → (Nat → Int32) → (Nat → Int32) → (Nat → Int32) → (Nat → Int32) → (Nat → Int32) → (Nat → Int32) → (Nat → Int32) → (Nat → Int32) → (Nat → Int32) → Prop} {s e i : Nat} {x2 x5 x6 x : Int32} (hs : s < 13) (he : e < 36) (hJ : J (nI (e + 1)) (nI (i + 1)) a1 a2 a3 a4 a5 a6 a7 (upd a8 (36 * s + e) (nI i)) (upd a9 (36 * s + e) x) a10 a11 a12 a13 a14 a15 a16 a17 a18 a19 a20 a21 a22 a23 a24 a25 a26 a27 a28) : wX_packLine_47 post J (nI s) x2 (nI e) x5 x6 (nI i) x g1 g2 g3 g4 a1 a2 a3 a4 a5 a6 a7 a8 a9 a10 a11 a12 a13 a14 a15 a16 a17 a18 a19 a20 a21 a22 a23 a24 a25 a26 a27 a28 := by
  unfold wX_packLine_47
  rw [zf_i36, nI_clamp (show 36 * s + e < 2 ^ 31 by omega)]
  have d : vp_in (nI (36 * s + e)) 468 := vp_in_nI (by omega) (by omega)
  exact ⟨d, nm_e ⟨d, nm_e (nm_r (nI_1 e) (nm_r (nI_1 i) hJ))⟩⟩
theorem zf_packLine {post : Int32 → St2 → Prop} {s rk n m f l o : Nat} {v : Nat → Int32} (hs : s < 13) (sh : zf_sh rk n m f) (hd : zf_hd s rk n m f a1 a2 a3 a4) (hl : l < 6) (ho : o + 6 ≤ 36) (hv : ∀ p, a18 (zf_ix rk f l p) = v p)
    (H : ∀ b8 b9 : Nat → Int32, zf_ln s o (zf_q (zf_sp rk f) v) v b8 b9 (zf_W rk n m f) → (∀ j, (j < 36 * s + o ∨ 36 * s + 36 ≤ j) → b8 j = a8 j ∧ b9 j = a9 j) → post (nI (o + zf_cnt (zf_q (zf_sp rk f) v) (zf_W rk n m f))) (g1, g2, g3, g4, a1, a2, a3, a4, a5, a6, a7, b8, b9, a10, a11, a12, a13, a14, a15, a16, a17, a18, a19, a20, a21, a22, a23, a24, a25, a26, a27, a28)) :
    wpX_packLine post (g1, g2, g3, g4, a1, a2, a3, a4, a5, a6, a7, a8, a9, a10, a11, a12, a13, a14, a15, a16, a17, a18, a19, a20, a21, a22, a23, a24, a25, a26, a27, a28) (nI s) (nI l) (nI o) := by
  have hW := zf_shW sh
  unfold wpX_packLine
  dsimp only
  refine zf_lineLength hs sh hd (zf_skipsPlaces hs sh hd ?_)
  refine pk_loop (σ := Nat × (Nat → Int32) × (Nat → Int32)) (fun k i t => wX_packLine_20 post (nI s) (nI l) (nI (zf_W rk n m f)) (zf_B (zf_sp rk f)) g1 g2 g3 g4 k (nI t.1) (nI i) a1 a2 a3 a4 a5 a6 a7 t.2.1 t.2.2 a10 a11 a12 a13 a14 a15 a16 a17 a18 a19 a20 a21 a22 a23 a24 a25 a26 a27 a28)
    (fun i t => t.1 = o + zf_cnt (zf_q (zf_sp rk f) v) i ∧ zf_ln s o (zf_q (zf_sp rk f) v) v t.2.1 t.2.2 i ∧ ∀ j, (j < 36 * s + o ∨ 36 * s + 36 ≤ j) → t.2.1 j = a8 j ∧ t.2.2 j = a9 j)
    (zf_W rk n m f) 0 (o, a8, a9) (Nat.zero_le _) ⟨rfl, fun p hp => absurd hp (Nat.not_lt_zero p), fun j _ => ⟨rfl, rfl⟩⟩ ?_ ?_
  · rintro k ⟨e, b8, b9⟩ ⟨h1, h2, h3⟩
    refine pk_le (zf_W rk n m f) (zf_W rk n m f) (fun _ => ?_) (fun z => absurd z (by omega))
    have g := H b8 b9 h2 h3
    dsimp only at h1
    rw [← h1] at g
    exact g
  · rintro k i ⟨e, b8, b9⟩ hi ⟨h1, h2, h3⟩ hw
    dsimp only at h1 h2 h3
    have hc := zf_cLe (zf_q (zf_sp rk f) v) i
    have st : zf_q (zf_sp rk f) v i = true → wX_packLine_47 post (wX_packLine_20 post (nI s) (nI l) (nI (zf_W rk n m f)) (zf_B (zf_sp rk f)) g1 g2 g3 g4 k) (nI s) (nI l) (nI e) (nI (zf_W rk n m f)) (zf_B (zf_sp rk f)) (nI i) (v i) g1 g2 g3 g4 a1 a2 a3 a4 a5 a6 a7 b8 b9 a10 a11 a12 a13 a14 a15 a16 a17 a18 a19 a20 a21 a22 a23 a24 a25 a26 a27 a28 := by
      intro hq
      refine zf_47 hs (by omega) (hw (e + 1, upd b8 (36 * s + e) (nI i), upd b9 (36 * s + e) (v i)) ⟨?_, zf_lnS hq h1 h2, ?_⟩)
      · show e + 1 = _
        rw [zf_cT hq]; omega
      · intro j hj
        show upd b8 (36 * s + e) (nI i) j = a8 j ∧ upd b9 (36 * s + e) (v i) j = a9 j
        rw [pk_un (by omega), pk_un (by omega)]
        exact h3 j hj
    refine pk_le (zf_W rk n m f) i (fun z => absurd z (by omega)) (fun _ => zf_plainAt hs sh hd hl (by omega) ?_)
    rw [hv i]
    refine br_c (fun z => ?_) (fun z => st (zf_qT z))
    cases esp : zf_sp rk f
    · rw [esp] at st
      exact br_t rfl (st zf_qN)
    · have hq : zf_q (zf_sp rk f) v i = false := by rw [esp]; exact zf_qZ z
      have g := hw (e, b8, b9) ⟨by rw [zf_cF hq]; exact h1, zf_lnF hq h2, h3⟩
      rw [esp] at g
      exact br_f (by decide) (nm_r (nI_1 i) g)
theorem zf_lineFilled {post : Int32 → Prop} {s rk n m f l : Nat} {v : Nat → Int32} (hs : s < 13) (sh : zf_sh rk n m f) (hd : zf_hd s rk n m f a1 a2 a3 a4) (hl : l < 6) (hv : ∀ p, a18 (zf_ix rk f l p) = v p)
    (H : post (zf_B (zf_any v (zf_W rk n m f)))) : wpX_lineFilled post (g1, g2, g3, g4, a1, a2, a3, a4, a5, a6, a7, a8, a9, a10, a11, a12, a13, a14, a15, a16, a17, a18, a19, a20, a21, a22, a23, a24, a25, a26, a27, a28) (nI s) (nI l) := by
  have hW := zf_shW sh
  unfold wpX_lineFilled
  dsimp only
  refine zf_lineLength hs sh hd ?_
  refine pk_loop (σ := Int32) (fun k i x => wX_lineFilled_12 post (nI s) (nI l) (nI (zf_W rk n m f)) g1 g2 g3 g4 a1 a2 a3 a4 a5 a6 a7 a8 a9 a10 a11 a12 a13 a14 a15 a16 a17 a18 a19 a20 a21 a22 a23 a24 a25 a26 a27 a28 k x (nI i)) (fun i x => x = zf_B (zf_any v i)) (zf_W rk n m f) 0 0 (Nat.zero_le _) rfl ?_ ?_
  · rintro k x rfl
    exact pk_le (zf_W rk n m f) (zf_W rk n m f) (fun _ => ⟨zf_nb _, H⟩) (fun z => absurd z (by omega))
  · rintro k i x hi rfl hw
    refine pk_le (zf_W rk n m f) i (fun z => absurd z (by omega)) (fun _ => ?_)
    cases e : zf_any v i
    · refine br_t rfl (zf_plainAt hs sh hd hl (by omega) ?_)
      rw [hv i]
      exact br_c (fun z => nm_r (nI_1 i) (hw 0 (by rw [zf_an0 e z]; rfl))) (fun z => nm_r (nI_1 i) (hw 1 (by rw [zf_an1 z]; rfl)))
    · exact br_f (by decide) (nm_r (nI_1 i) (hw 1 (by rw [zf_an2 e]; rfl)))
end
end
section
/-! packing a whole slot -/
def zf_I (s rk n m f : Nat) (V : Nat → Nat → Int32) (a5 a6 a7 a8 a9 : Nat → Int32) (i o : Nat) (b5 b6 b7 b8 b9 : Nat → Int32) : Prop :=
  o = zf_off (zf_k (zf_sl rk f) (zf_W rk n m f) V) (zf_w (zf_sp rk f) (zf_W rk n m f) V) i ∧ b5 s = nI (zf_cnt (zf_k (zf_sl rk f) (zf_W rk n m f) V) i) ∧ zf_bd s (zf_W rk n m f) (zf_sl rk f) (zf_sp rk f) V b6 b7 b8 b9 i ∧ zf_fb s a5 a6 a7 a8 a9 b5 b6 b7 b8 b9
theorem zf_IB {s rk n m f i o : Nat} {V : Nat → Nat → Int32} {a5 a6 a7 a8 a9 b5 b6 b7 b8 b9 : Nat → Int32} (sh : zf_sh rk n m f) (h : zf_I s rk n m f V a5 a6 a7 a8 a9 i o b5 b6 b7 b8 b9) : o ≤ 6 * i := by
  rw [h.1]
  exact zf_oB (zf_wB (zf_shW sh).2) i
theorem zf_IS {s rk n m f i o : Nat} {V : Nat → Nat → Int32} {a5 a6 a7 a8 a9 b5 b6 b7 b8 b9 c8 c9 : Nat → Int32} (sh : zf_sh rk n m f) (hi : i < 6) (hk : zf_k (zf_sl rk f) (zf_W rk n m f) V i = true) (h : zf_I s rk n m f V a5 a6 a7 a8 a9 i o b5 b6 b7 b8 b9)
    (hln : zf_ln s o (zf_q (zf_sp rk f) (V i)) (V i) c8 c9 (zf_W rk n m f)) (hfr : ∀ j, (j < 36 * s + o ∨ 36 * s + 36 ≤ j) → c8 j = b8 j ∧ c9 j = b9 j) :
    zf_I s rk n m f V a5 a6 a7 a8 a9 (i + 1) (o + zf_cnt (zf_q (zf_sp rk f) (V i)) (zf_W rk n m f)) (upd b5 s (nI (zf_cnt (zf_k (zf_sl rk f) (zf_W rk n m f) V) i + 1))) (upd b6 (6 * s + zf_cnt (zf_k (zf_sl rk f) (zf_W rk n m f) V) i) (nI i)) (upd b7 (7 * s + zf_cnt (zf_k (zf_sl rk f) (zf_W rk n m f) V) i) (nI o)) c8 c9 := by
  obtain ⟨h1, h2, h3, f5, f6, f7, f8⟩ := h
  have hc := zf_cLe (zf_k (zf_sl rk f) (zf_W rk n m f) V) i
  refine ⟨?_, ?_, zf_bdS hk h1 rfl (zf_shW sh).2 h3 hln hfr, ?_, ?_, ?_, ?_⟩
  · rw [zf_oT hk, ← h1]
    rfl
  · rw [pk_us, zf_cT hk]
  · intro j hj
    rw [pk_un hj]
    exact f5 j hj
  · intro j hj
    rw [pk_un (by omega)]
    exact f6 j hj
  · intro j hj
    rw [pk_un (by omega)]
    exact f7 j hj
  · intro j hj
    have g := hfr j (by omega)
    rw [g.1, g.2]
    exact f8 j hj
theorem zf_IF {s rk n m f i o : Nat} {V : Nat → Nat → Int32} {a5 a6 a7 a8 a9 b5 b6 b7 b8 b9 : Nat → Int32} (hk : zf_k (zf_sl rk f) (zf_W rk n m f) V i = false) (h : zf_I s rk n m f V a5 a6 a7 a8 a9 i o b5 b6 b7 b8 b9) :
    zf_I s rk n m f V a5 a6 a7 a8 a9 (i + 1) o b5 b6 b7 b8 b9 := by
  obtain ⟨h1, h2, h3, h4⟩ := h
  exact ⟨by rw [zf_oF hk]; exact h1, by rw [zf_cF hk]; exact h2, zf_bdF hk h3, h4⟩
section
variable {g1 g2 g3 g4 : Int32} {a1 a2 a3 a4 a5 a6 a7 a8 a9 a10 a11 a12 a13 a14 a15 a16 a17 a18 a19 a20 a21 a22 a23 a24 a25 a26 a27 a28 : Nat → Int32}
variable {b5 b6 b7 b8 b9 : Nat → Int32}
theorem zf_79 {post : St2 → Prop} {J : Int32 → Int32 → Int32 → Int32 → Int32 → Int32 → (Nat → Int32) → (Nat → Int32) → (Nat → Int32) → (Nat → Int32) → (Nat → Int32) → (Nat → Int32) → (Nat → Int32) → (Nat → Int32) → (Nat → Int32) → (Nat → Int32) → (Nat → Int32) → (Nat → Int32) → (Nat → Int32) → (Nat → Int32) → (Nat → Int32) → (Nat → Int32) → (Nat → Int32) → (Nat → Int32) → (Nat → Int32) → (Nat → Int32) → (Nat → Int32) → (Nat → Int32) → (Nat → Int32) → (Nat → Int32) → (Nat → Int32) → (Nat → Int32) → (Nat → Int32) → (Nat → Int32) → Prop} {s rk n m f i o : Nat} {V : Nat → Nat → Int32} {x6 x7 : Int32} (hs : s < 13) (sh : zf_sh rk n m f) (hd : zf_hd s rk n m f a1 a2 a3 a4) (hV : ∀ l p, a18 (zf_ix rk f l p) = V l p) (hi : i < 6)
    (hk : zf_k (zf_sl rk f) (zf_W rk n m f) V i = true) (h : zf_I s rk n m f V a5 a6 a7 a8 a9 i o b5 b6 b7 b8 b9)
    (hJ : ∀ (o' : Nat) (c5 c6 c7 c8 c9 : Nat → Int32), zf_I s rk n m f V a5 a6 a7 a8 a9 (i + 1) o' c5 c6 c7 c8 c9 → J (nI o') (nI (i + 1)) g1 g2 g3 g4 a1 a2 a3 a4 c5 c6 c7 c8 c9 a10 a11 a12 a13 a14 a15 a16 a17 a18 a19 a20 a21 a22 a23 a24 a25 a26 a27 a28) :
    wX_pack_79 post J (nI s) x6 x7 (nI o) (nI i) g1 g2 g3 g4 a1 a2 a3 a4 b5 b6 b7 b8 b9 a10 a11 a12 a13 a14 a15 a16 a17 a18 a19 a20 a21 a22 a23 a24 a25 a26 a27 a28 := by
  have hc := zf_cLe (zf_k (zf_sl rk f) (zf_W rk n m f) V) i
  have hoB := zf_IB sh h
  unfold wX_pack_79
  rw [zf_cl hs, h.2.1, zf_i6, zf_i7, nI_clamp (show 6 * s + zf_cnt (zf_k (zf_sl rk f) (zf_W rk n m f) V) i < 2 ^ 31 by omega), nI_clamp (show 7 * s + zf_cnt (zf_k (zf_sl rk f) (zf_W rk n m f) V) i < 2 ^ 31 by omega)]
  refine ⟨pk_in s 13 hs, vp_in_nI (by omega) (by omega), nm_e ⟨pk_in s 13 hs, vp_in_nI (by omega) (by omega), nm_e (zf_packLine hs sh hd hi (by omega) (hV i) (fun c8 c9 hln hfr => ?_))⟩⟩
  refine ⟨pk_in s 13 hs, pk_in s 13 hs, nm_r (e' := upd b5 s (nI (zf_cnt (zf_k (zf_sl rk f) (zf_W rk n m f) V) i + 1))) ?_ (nm_r (nI_1 i) (hJ _ _ _ _ _ _ (zf_IS sh hi hk h hln hfr)))⟩
  rw [h.2.1, nI_1]
theorem zf_pack57 {post : St2 → Prop} {s rk n m f : Nat} {V : Nat → Nat → Int32} (hs : s < 13) (sh : zf_sh rk n m f) (hd : zf_hd s rk n m f a1 a2 a3 a4) (h5 : a5 s = 0) (hV : ∀ l p, a18 (zf_ix rk f l p) = V l p)
    (H : ∀ b5 b6 b7 b8 b9 : Nat → Int32, zf_rep s (zf_C rk n m f) (zf_W rk n m f) (zf_sl rk f) (zf_sp rk f) V b5 b6 b7 b8 b9 → zf_fb s a5 a6 a7 a8 a9 b5 b6 b7 b8 b9 → post (g1, g2, g3, g4, a1, a2, a3, a4, b5, b6, b7, b8, b9, a10, a11, a12, a13, a14, a15, a16, a17, a18, a19, a20, a21, a22, a23, a24, a25, a26, a27, a28)) :
    ∃ fu, wX_pack_57 post (nI s) (nI (zf_C rk n m f)) (zf_B (zf_sl rk f)) fu 0 0 g1 g2 g3 g4 a1 a2 a3 a4 a5 a6 a7 a8 a9 a10 a11 a12 a13 a14 a15 a16 a17 a18 a19 a20 a21 a22 a23 a24 a25 a26 a27 a28 := by
  have hC := zf_shC sh
  refine pk_loop (σ := Nat × (Nat → Int32) × (Nat → Int32) × (Nat → Int32) × (Nat → Int32) × (Nat → Int32)) (fun k i t => wX_pack_57 post (nI s) (nI (zf_C rk n m f)) (zf_B (zf_sl rk f)) k (nI t.1) (nI i) g1 g2 g3 g4 a1 a2 a3 a4 t.2.1 t.2.2.1 t.2.2.2.1 t.2.2.2.2.1 t.2.2.2.2.2 a10 a11 a12 a13 a14 a15 a16 a17 a18 a19 a20 a21 a22 a23 a24 a25 a26 a27 a28)
    (fun i t => zf_I s rk n m f V a5 a6 a7 a8 a9 i t.1 t.2.1 t.2.2.1 t.2.2.2.1 t.2.2.2.2.1 t.2.2.2.2.2) (zf_C rk n m f) 0 (0, a5, a6, a7, a8, a9) (Nat.zero_le _)
    ⟨rfl, h5, fun l hl => absurd hl (Nat.not_lt_zero l), fun j _ => rfl, fun j _ => rfl, fun j _ => rfl, fun j _ => ⟨rfl, rfl⟩⟩ ?_ ?_
  · rintro k ⟨o, b5, b6, b7, b8, b9⟩ h
    dsimp only at h
    have hc := zf_cLe (zf_k (zf_sl rk f) (zf_W rk n m f) V) (zf_C rk n m f)
    refine pk_le (zf_C rk n m f) (zf_C rk n m f) (fun _ => ?_) (fun z => absurd z (by omega))
    dsimp only
    rw [zf_cl hs, h.2.1, zf_i7, nI_clamp (show 7 * s + zf_cnt (zf_k (zf_sl rk f) (zf_W rk n m f) V) (zf_C rk n m f) < 2 ^ 31 by omega)]
    refine ⟨pk_in s 13 hs, vp_in_nI (by omega) (by omega), nm_e (H _ _ _ _ _ ⟨h.2.1, ?_, ?_⟩ ?_)⟩
    · rw [pk_us, h.1]
    · intro l hl hk
      obtain ⟨g1, g2, g3⟩ := h.2.2.1 l hl hk
      have := zf_cL hk hl
      exact ⟨g1, by rw [pk_un (by omega)]; exact g2, g3⟩
    · obtain ⟨f5, f6, f7, f8⟩ := h.2.2.2
      exact ⟨f5, f6, fun j hj => by rw [pk_un (by omega)]; exact f7 j hj, f8⟩
  · rintro k i ⟨o, b5, b6, b7, b8, b9⟩ hi h hw
    dsimp only at h
    have st : zf_k (zf_sl rk f) (zf_W rk n m f) V i = true → wX_pack_79 post (wX_pack_57 post (nI s) (nI (zf_C rk n m f)) (zf_B (zf_sl rk f)) k) (nI s) (nI (zf_C rk n m f)) (zf_B (zf_sl rk f)) (nI o) (nI i) g1 g2 g3 g4 a1 a2 a3 a4 b5 b6 b7 b8 b9 a10 a11 a12 a13 a14 a15 a16 a17 a18 a19 a20 a21 a22 a23 a24 a25 a26 a27 a28 :=
      fun hk => zf_79 hs sh hd hV (by omega) hk h (fun o' c5 c6 c7 c8 c9 h' => hw (o', c5, c6, c7, c8, c9) h')
    refine pk_le (zf_C rk n m f) i (fun z => absurd z (by omega)) (fun _ => ?_)
    cases e : zf_sl rk f
    · rw [e] at st
      exact br_t rfl (st zf_kN)
    · refine br_f (by decide) (zf_lineFilled hs sh hd (by omega) (hV i) ?_)
      cases y : zf_any (V i) (zf_W rk n m f)
      · have hk : zf_k (zf_sl rk f) (zf_W rk n m f) V i = false := by rw [e, zf_kE]; exact y
        have g := hw (o, b5, b6, b7, b8, b9) (zf_IF hk h)
        rw [e] at g
        exact br_t rfl (nm_r (nI_1 i) g)
      · rw [e] at st
        exact br_f (by decide) (st (by rw [zf_kE]; exact y))
theorem zf_pack {post : St2 → Prop} {s rk n m f : Nat} {V : Nat → Nat → Int32} (hs : s < 13) (sh : zf_sh rk n m f) (hV : ∀ l p, a18 (zf_ix rk f l p) = V l p)
    (H : ∀ b1 b2 b3 b4 b5 b6 b7 b8 b9 : Nat → Int32, zf_slot s rk n m f V b1 b2 b3 b4 b5 b6 b7 b8 b9 → zf_fh s a1 a2 a3 a4 b1 b2 b3 b4 → zf_fb s a5 a6 a7 a8 a9 b5 b6 b7 b8 b9 → post (g1, g2, g3, g4, b1, b2, b3, b4, b5, b6, b7, b8, b9, a10, a11, a12, a13, a14, a15, a16, a17, a18, a19, a20, a21, a22, a23, a24, a25, a26, a27, a28)) :
    wpX_pack post (g1, g2, g3, g4, a1, a2, a3, a4, a5, a6, a7, a8, a9, a10, a11, a12, a13, a14, a15, a16, a17, a18, a19, a20, a21, a22, a23, a24, a25, a26, a27, a28) (nI s) (nI rk) (nI n) (nI m) (nI f) := by
  unfold wpX_pack
  dsimp only
  rw [zf_cl hs]
  have hd : zf_hd s rk n m f (upd a1 s (nI rk)) (upd a2 s (nI n)) (upd a3 s (nI m)) (upd a4 s (nI f)) := ⟨pk_us, pk_us, pk_us, pk_us⟩
  refine ⟨pk_in s 13 hs, nm_e ⟨pk_in s 13 hs, nm_e ⟨pk_in s 13 hs, nm_e ⟨pk_in s 13 hs, nm_e ⟨pk_in s 13 hs, nm_e (zf_lineCount hs sh hd (zf_skipsLines hs sh hd (zf_pack57 hs sh hd pk_us hV ?_)))⟩⟩⟩⟩⟩
  intro b5 b6 b7 b8 b9 hr hf
  refine H _ _ _ _ _ _ _ _ _ ⟨hd, hr⟩ (fun j hj => ⟨pk_un hj, pk_un hj, pk_un hj, pk_un hj⟩) ⟨fun j hj => ?_, hf.2⟩
  rw [hf.1 j hj]
  exact pk_un hj
end
end
section
/-! the constructor: six slots of rank 0 that hold 0 -/
def zf_z (t : Nat) (a1 a2 a3 a4 a5 a6 a7 a8 a9 : Nat → Int32) : Prop := ∃ V, (∀ l, l < 1 → ∀ p, p < 1 → V l p = 0) ∧ zf_slot t 0 1 1 0 V a1 a2 a3 a4 a5 a6 a7 a8 a9
theorem zf_sh0 : zf_sh 0 1 1 0 := Or.inl ⟨rfl, rfl, rfl, rfl⟩
section
variable {g1 g2 g3 g4 : Int32} {a1 a2 a3 a4 a5 a6 a7 a8 a9 a10 a11 a12 a13 a14 a15 a16 a17 a18 a19 a20 a21 a22 a23 a24 a25 a26 a27 a28 : Nat → Int32}
theorem zf_init {post : St2 → Prop} {mc ms : Nat} (hmc : 28 ≤ mc) (hms : 1400 ≤ ms)
    (H : ∀ a1 a2 a3 a4 a5 a6 a7 a8 a9 a18 : Nat → Int32, (∀ t, t < 6 → zf_z t a1 a2 a3 a4 a5 a6 a7 a8 a9) → post (g1, g2, g3, g4, a1, a2, a3, a4, a5, a6, a7, a8, a9, fun _ => 0, fun _ => 0, fun _ => 0, fun _ => 0, fun _ => 0, fun _ => 0, fun _ => 0, fun _ => 0, a18, fun _ => 0, fun _ => 0, fun _ => 0, fun _ => 0, fun _ => 0, fun _ => 0, fun _ => 0, fun _ => 0, fun _ => 0, fun _ => 0)) :
    wpX_init post mc ms (g1, g2, g3, g4) := by
  unfold wpX_init
  dsimp only
  iterate 56 refine ⟨by omega, ?_⟩
  refine pk_loop (σ := (Nat → Int32) × (Nat → Int32) × (Nat → Int32) × (Nat → Int32) × (Nat → Int32) × (Nat → Int32) × (Nat → Int32) × (Nat → Int32) × (Nat → Int32) × (Nat → Int32))
    (fun k i t => wX_init_228 post mc ms 28 1400 k (nI i) g1 g2 g3 g4 t.1 t.2.1 t.2.2.1 t.2.2.2.1 t.2.2.2.2.1 t.2.2.2.2.2.1 t.2.2.2.2.2.2.1 t.2.2.2.2.2.2.2.1 t.2.2.2.2.2.2.2.2.1 (fun _ => 0) (fun _ => 0) (fun _ => 0) (fun _ => 0) (fun _ => 0) (fun _ => 0) (fun _ => 0) (fun _ => 0) t.2.2.2.2.2.2.2.2.2 (fun _ => 0) (fun _ => 0) (fun _ => 0) (fun _ => 0) (fun _ => 0) (fun _ => 0) (fun _ => 0) (fun _ => 0) (fun _ => 0) (fun _ => 0))
    (fun i t => ∀ s, s < i → zf_z s t.1 t.2.1 t.2.2.1 t.2.2.2.1 t.2.2.2.2.1 t.2.2.2.2.2.1 t.2.2.2.2.2.2.1 t.2.2.2.2.2.2.2.1 t.2.2.2.2.2.2.2.2.1)
    6 0 (fun _ => 0, fun _ => 0, fun _ => 0, fun _ => 0, fun _ => 0, fun _ => 0, fun _ => 0, fun _ => 0, fun _ => 0, fun _ => 0) (by omega) (fun s hs => absurd hs (Nat.not_lt_zero s)) ?_ ?_
  · rintro k ⟨b1, b2, b3, b4, b5, b6, b7, b8, b9, b18⟩ h
    exact pk_le 6 6 (fun _ => H _ _ _ _ _ _ _ _ _ _ h) (fun z => absurd z (by omega))
  · rintro k i ⟨b1, b2, b3, b4, b5, b6, b7, b8, b9, b18⟩ hi h hw
    dsimp only at h
    refine pk_le 6 i (fun z => absurd z (by omega)) (fun _ => zf_clear (fun c hc => ?_))
    refine zf_pack (s := i) (rk := 0) (n := 1) (m := 1) (f := 0) (V := fun l p => c (zf_ix 0 0 l p)) (by omega) zf_sh0 (fun l p => rfl) (fun d1 d2 d3 d4 d5 d6 d7 d8 d9 hsl hfh hfb => nm_r (nI_1 i) (hw (d1, d2, d3, d4, d5, d6, d7, d8, d9, c) (fun s hs => ?_)))
    by_cases e : s = i
    · rw [e]
      exact ⟨_, fun l hl p hp => hc _ (zf_ixB zf_sh0 (by omega) (by omega)), hsl⟩
    · obtain ⟨V, hV, hz⟩ := h s (by omega)
      exact ⟨V, hV, zf_slotF zf_sh0 e hfh hfb hz⟩
end
end
section
/-! search by halves, in a table of what is kept -/
def zf_7 : Nat → Nat
  | 0 => 7
  | 1 => 3
  | 2 => 1
  | _ => 0
theorem zf_7S {i lo hi mid : Nat} (hi4 : i < 4) (hlt : lo < hi) (h : hi ≤ lo + zf_7 i) (hm : mid = (lo + hi - 1) / 2) : mid ≤ lo + zf_7 (i + 1) ∧ hi ≤ mid + 1 + zf_7 (i + 1) := by
  have hc : i = 0 ∨ i = 1 ∨ i = 2 ∨ i = 3 := by omega
  rcases hc with e | e | e | e
  · subst e
    have h : hi ≤ lo + 7 := h
    show mid ≤ lo + 3 ∧ hi ≤ mid + 1 + 3
    omega
  · subst e
    have h : hi ≤ lo + 3 := h
    show mid ≤ lo + 1 ∧ hi ≤ mid + 1 + 1
    omega
  · subst e
    have h : hi ≤ lo + 1 := h
    show mid ≤ lo + 0 ∧ hi ≤ mid + 1 + 0
    omega
  · subst e
    have h : hi ≤ lo + 0 := h
    omega
def zf_J (q : Nat → Bool) (b N t i lo hi : Nat) : Prop := (b ≤ lo ∧ lo ≤ b + zf_cnt q N) ∧ hi ≤ b + zf_cnt q N ∧ (q t = true → lo ≤ b + zf_cnt q t ∧ b + zf_cnt q t < hi) ∧ hi ≤ lo + zf_7 i
theorem zf_J0 {q : Nat → Bool} {b N t : Nat} (ht : t < N) (hN : N ≤ 6) : zf_J q b N t 0 b (b + zf_cnt q N) := by
  have hc := zf_cLe q N
  refine ⟨⟨Nat.le_refl _, Nat.le_add_right _ _⟩, Nat.le_refl _, fun hq => ⟨Nat.le_add_right _ _, ?_⟩, ?_⟩
  · have := zf_cL hq ht
    omega
  · show b + zf_cnt q N ≤ b + 7
    omega
theorem zf_JE {q : Nat → Bool} {b N t i lo hi : Nat} (h : zf_J q b N t i lo hi) (he : hi ≤ lo) : q t = false := by
  cases e : q t
  · rfl
  · have := h.2.2.1 e
    omega
theorem zf_JS {q : Nat → Bool} {b N t i lo hi : Nat} {A : Nat → Int32} (T : ∀ e, b ≤ e → e < b + zf_cnt q N → ∃ p, p < N ∧ q p = true ∧ b + zf_cnt q p = e ∧ A e = nI p) (h : zf_J q b N t i lo hi) (hlt : lo < hi) (hi4 : i < 4) :
    ∃ p mid, mid = (lo + hi - 1) / 2 ∧ p < N ∧ b ≤ mid ∧ mid < b + zf_cnt q N ∧ A mid = nI p ∧ (p = t → q t = true ∧ b + zf_cnt q t = mid) ∧ (t < p → zf_J q b N t (i + 1) lo mid) ∧ (p < t → zf_J q b N t (i + 1) (mid + 1) hi) := by
  obtain ⟨h1, h2, h3, h4⟩ := h
  have hm := zf_7S hi4 hlt h4 rfl
  obtain ⟨p, p1, p2, p3, p4⟩ := T ((lo + hi - 1) / 2) (by omega) (by omega)
  refine ⟨p, (lo + hi - 1) / 2, rfl, p1, by omega, by omega, p4, ?_, ?_, ?_⟩
  · intro e
    rw [e] at p2 p3
    exact ⟨p2, p3⟩
  · intro e
    refine ⟨h1, by omega, fun hq => ?_, hm.1⟩
    have := zf_cL hq e
    have := h3 hq
    omega
  · intro e
    refine ⟨⟨by omega, by omega⟩, h2, fun hq => ?_, hm.2⟩
    have := zf_cL p2 e
    have := h3 hq
    omega
theorem zf_hlt {lo hi : Nat} (h : hi ≤ lo) (hlo : lo < 2 ^ 31) : nI hi - 1 < nI lo := by
  cases hi with
  | zero =>
    rw [Int32.lt_iff_toInt_lt, nI_toInt hlo, show (nI 0 - 1).toInt = -1 from rfl]
    omega
  | succ k =>
    rw [nI_pred]
    exact nI_lt (by omega) hlo
theorem zf_hin {lo hi : Nat} (h : lo < hi) (hhi : hi < 2 ^ 31) : ¬ nI hi - 1 < nI lo := by
  cases hi with
  | zero => omega
  | succ k =>
    rw [nI_pred]
    exact nI_nlt (by omega) (by omega)
theorem zf_mid {lo hi : Nat} (h : lo < hi) (hhi : hi < 2 ^ 30) : (nI lo + (nI hi - 1)) >>> ((1 : Int32) &&& 31) = nI ((lo + hi - 1) / 2) := by
  cases hi with
  | zero => omega
  | succ k =>
    rw [nI_pred, nI_add, pk_shrN (by omega) _ 1 (by decide)]
    rfl
theorem zf_nm1 {n : Nat} (h : n < 2 ^ 31) : ¬ nI n = -1 := by
  intro e
  have h1 := nI_toInt h
  rw [e, show (-1 : Int32).toInt = -1 from rfl] at h1
  omega
section
variable {g1 g2 g3 g4 : Int32} {a1 a2 a3 a4 a5 a6 a7 a8 a9 a10 a11 a12 a13 a14 a15 a16 a17 a18 a19 a20 a21 a22 a23 a24 a25 a26 a27 a28 : Nat → Int32}
theorem zf_findLine {post : Int32 → Prop} {s C W t : Nat} {sl sp : Bool} {V : Nat → Nat → Int32} (hs : s < 13) (hC : C ≤ 6) (ht : t < C) (hr : zf_rep s C W sl sp V a5 a6 a7 a8 a9)
    (H1 : zf_k sl W V t = true → post (nI (zf_cnt (zf_k sl W V) t))) (H0 : zf_k sl W V t = false → post (-1)) : wpX_findLine post (g1, g2, g3, g4, a1, a2, a3, a4, a5, a6, a7, a8, a9, a10, a11, a12, a13, a14, a15, a16, a17, a18, a19, a20, a21, a22, a23, a24, a25, a26, a27, a28) (nI s) (nI t) := by
  have hc := zf_cLe (zf_k sl W V) C
  unfold wpX_findLine
  dsimp only
  rw [zf_cl hs, hr.1]
  refine ⟨pk_in s 13 hs, nm_e ?_⟩
  have T : ∀ e, 0 ≤ e → e < 0 + zf_cnt (zf_k sl W V) C → ∃ p, p < C ∧ zf_k sl W V p = true ∧ 0 + zf_cnt (zf_k sl W V) p = e ∧ a6 (6 * s + e) = nI p := by
    intro e _ he
    rw [Nat.zero_add] at he
    obtain ⟨p, p1, p2, p3, p4⟩ := zf_repL hr he
    exact ⟨p, p1, p2, by omega, p4⟩
  have h0 := zf_J0 (q := zf_k sl W V) (b := 0) ht hC
  rw [Nat.zero_add] at h0
  refine pk_loop (σ := Nat × Nat) (fun k i u => wX_findLine_15 post (nI s) (nI t) g1 g2 g3 g4 a1 a2 a3 a4 a5 a6 a7 a8 a9 a10 a11 a12 a13 a14 a15 a16 a17 a18 a19 a20 a21 a22 a23 a24 a25 a26 a27 a28 k (nI u.1) (nI u.2 - 1) (nI i)) (fun i u => zf_J (zf_k sl W V) 0 C t i u.1 u.2) 4 0 (0, zf_cnt (zf_k sl W V) C) (by omega) h0 ?_ ?_
  · rintro k ⟨lo, hi⟩ h
    exact pk_le 4 4 (fun _ => H0 (zf_JE h h.2.2.2)) (fun z => absurd z (by omega))
  · rintro k i ⟨lo, hi⟩ hi4 h hw
    dsimp only at h
    have hhi := h.2.1
    refine pk_le 4 i (fun z => absurd z (by omega)) (fun _ => ?_)
    by_cases hlt : lo < hi
    · obtain ⟨p, mid, hm, p1, p2, p3, p4, p5, p6, p7⟩ := zf_JS (A := fun e => a6 (6 * s + e)) T h hlt hi4
      refine br_f (zf_hin hlt (by omega)) (nm_r ((zf_mid hlt (by omega)).trans (congrArg nI hm.symm)) ?_)
      have ci : (6 * nI s + nI mid).toNatClampNeg = 6 * s + mid := by
        rw [zf_i6]
        exact nI_clamp (by omega)
      refine ⟨by rw [zf_i6]; exact vp_in_nI (by omega) (by omega), nm_r (e' := nI p) (by rw [ci]; exact p4) ?_⟩
      refine pk_eq p t (fun z => ?_) (fun z => pk_le t p (fun y => ?_) (fun y => ?_))
      · have g := H1 (p5 z).1
        rw [show zf_cnt (zf_k sl W V) t = mid by have := (p5 z).2; omega] at g
        exact g
      · exact pk_le p t (fun x => absurd x (by omega)) (fun _ => nm_e (nm_r (nI_1 i) (hw (lo, mid) (p6 (by omega)))))
      · rw [nI_1]
        exact pk_le p t (fun _ => nm_r (nI_1 i) (hw (mid + 1, hi) (p7 y))) (fun x => absurd x (by omega))
    · exact br_t (zf_hlt (by omega) (by have := h.1.2; omega)) (H0 (zf_JE h (by omega)))
theorem zf_findPlace {post : Int32 → Prop} {s C W l t : Nat} {sl sp : Bool} {V : Nat → Nat → Int32} (hs : s < 13) (hC : C ≤ 6) (hW : W ≤ 6) (hl : l < C) (ht : t < W) (hk : zf_k sl W V l = true) (hr : zf_rep s C W sl sp V a5 a6 a7 a8 a9)
    (H1 : zf_q sp (V l) t = true → post (nI (zf_off (zf_k sl W V) (zf_w sp W V) l + zf_cnt (zf_q sp (V l)) t))) (H0 : zf_q sp (V l) t = false → post (-1)) : wpX_findPlace post (g1, g2, g3, g4, a1, a2, a3, a4, a5, a6, a7, a8, a9, a10, a11, a12, a13, a14, a15, a16, a17, a18, a19, a20, a21, a22, a23, a24, a25, a26, a27, a28) (nI s) (nI (zf_cnt (zf_k sl W V) l)) (nI t) := by
  have hc := zf_cLe (zf_k sl W V) l
  have o1 := zf_oL (w := zf_w sp W V) hk hl
  have o2 := zf_oB (k := zf_k sl W V) (zf_wB (sp := sp) (V := V) hW) C
  have ew : zf_w sp W V l = zf_cnt (zf_q sp (V l)) W := rfl
  obtain ⟨_, r2, r3⟩ := hr.2.2 l hl hk
  unfold wpX_findPlace
  dsimp only
  rw [zf_i7, nI_1, nI_clamp (show 7 * s + zf_cnt (zf_k sl W V) l < 2 ^ 31 by omega), nI_clamp (show 7 * s + zf_cnt (zf_k sl W V) l + 1 < 2 ^ 31 by omega), r2, zf_repE hr hl hk]
  refine ⟨vp_in_nI (by omega) (by omega), nm_e ⟨vp_in_nI (by omega) (by omega), nm_e ?_⟩⟩
  rw [ew] at o1 ⊢
  generalize zf_off (zf_k sl W V) (zf_w sp W V) l = o at *
  have T : ∀ e, o ≤ e → e < o + zf_cnt (zf_q sp (V l)) W → ∃ p, p < W ∧ zf_q sp (V l) p = true ∧ o + zf_cnt (zf_q sp (V l)) p = e ∧ a8 (36 * s + e) = nI p := by
    intro e he1 he2
    obtain ⟨p, p1, p2, p3, p4, _⟩ := zf_lnL r3 he1 he2
    exact ⟨p, p1, p2, p3, p4⟩
  refine pk_loop (σ := Nat × Nat) (fun k i u => wX_findPlace_33 post (nI s) (nI t) g1 g2 g3 g4 a1 a2 a3 a4 a5 a6 a7 a8 a9 a10 a11 a12 a13 a14 a15 a16 a17 a18 a19 a20 a21 a22 a23 a24 a25 a26 a27 a28 k (nI u.1) (nI u.2 - 1) (nI i)) (fun i u => zf_J (zf_q sp (V l)) o W t i u.1 u.2) 4 0 (o, o + zf_cnt (zf_q sp (V l)) W) (by omega) (zf_J0 ht hW) ?_ ?_
  · rintro k ⟨lo, hi⟩ h
    exact pk_le 4 4 (fun _ => H0 (zf_JE h h.2.2.2)) (fun z => absurd z (by omega))
  · rintro k i ⟨lo, hi⟩ hi4 h hw
    dsimp only at h
    have hhi := h.2.1
    refine pk_le 4 i (fun z => absurd z (by omega)) (fun _ => ?_)
    by_cases hlt : lo < hi
    · obtain ⟨p, mid, hm, p1, p2, p3, p4, p5, p6, p7⟩ := zf_JS (A := fun e => a8 (36 * s + e)) T h hlt hi4
      refine br_f (zf_hin hlt (by omega)) (nm_r ((zf_mid hlt (by omega)).trans (congrArg nI hm.symm)) ?_)
      have ci : (36 * nI s + nI mid).toNatClampNeg = 36 * s + mid := by
        rw [zf_i36]
        exact nI_clamp (by omega)
      refine ⟨by rw [zf_i36]; exact vp_in_nI (by omega) (by omega), nm_r (e' := nI p) (by rw [ci]; exact p4) ?_⟩
      refine pk_eq p t (fun z => ?_) (fun z => pk_le t p (fun y => ?_) (fun y => ?_))
      · have g := H1 (p5 z).1
        rw [(p5 z).2] at g
        exact g
      · exact pk_le p t (fun x => absurd x (by omega)) (fun _ => nm_e (nm_r (nI_1 i) (hw (lo, mid) (p6 (by omega)))))
      · rw [nI_1]
        exact pk_le p t (fun _ => nm_r (nI_1 i) (hw (mid + 1, hi) (p7 y))) (fun x => absurd x (by omega))
    · exact br_t (zf_hlt (by omega) (by have := h.1.2; omega)) (H0 (zf_JE h (by omega)))
end
end
section
/-! places, and what stands there -/
section
variable {g1 g2 g3 g4 : Int32} {a1 a2 a3 a4 a5 a6 a7 a8 a9 a10 a11 a12 a13 a14 a15 a16 a17 a18 a19 a20 a21 a22 a23 a24 a25 a26 a27 a28 : Nat → Int32}
theorem zf_reg0 {post : Int32 → Prop} {s : Nat} (hs : s < 6) (H : post 0) : wpX_badRegister post (g1, g2, g3, g4, a1, a2, a3, a4, a5, a6, a7, a8, a9, a10, a11, a12, a13, a14, a15, a16, a17, a18, a19, a20, a21, a22, a23, a24, a25, a26, a27, a28) (nI s) := by
  unfold wpX_badRegister
  dsimp only
  exact pk_lt s 0 (fun z => absurd z (by omega)) (fun _ => pk_lt s 6 (fun _ => H) (fun z => absurd z (by omega)))
theorem zf_reg1 {post : Int32 → Prop} {r : Int32} (hr : r < 0 ∨ 5 < r) (H : post 1) : wpX_badRegister post (g1, g2, g3, g4, a1, a2, a3, a4, a5, a6, a7, a8, a9, a10, a11, a12, a13, a14, a15, a16, a17, a18, a19, a20, a21, a22, a23, a24, a25, a26, a27, a28) r := by
  unfold wpX_badRegister
  dsimp only
  refine br_c (fun z => H) (fun z => br_c (fun y => ?_) (fun y => H))
  exfalso
  rcases hr with h | h
  · exact z h
  · rw [Int32.lt_iff_toInt_lt] at y h
    have e6 : (6 : Int32).toInt = 6 := rfl
    have e5 : (5 : Int32).toInt = 5 := rfl
    omega
theorem zf_noPlace {post : Int32 → Prop} {s rk n m f : Nat} {p1 p2 : Int32} (hs : s < 13) (sh : zf_sh rk n m f) (hd : zf_hd s rk n m f a1 a2 a3 a4)
    (H0 : ∀ i j : Nat, i < n → j < m → p1 = nI i → p2 = nI j → post 0) (H1 : ¬ (∃ i j : Nat, i < n ∧ j < m ∧ p1 = nI i ∧ p2 = nI j) → post 1) : wpX_noPlace post (g1, g2, g3, g4, a1, a2, a3, a4, a5, a6, a7, a8, a9, a10, a11, a12, a13, a14, a15, a16, a17, a18, a19, a20, a21, a22, a23, a24, a25, a26, a27, a28) (nI s) p1 p2 := by
  have hb := zf_shB sh
  unfold wpX_noPlace
  dsimp only
  rw [zf_cl hs, hd.2.1, hd.2.2.1]
  refine br_c (fun z => H1 ?_) (fun z => ⟨pk_in s 13 hs, br_c (fun y => H1 ?_) (fun y => br_c (fun x => H1 ?_) (fun x => ⟨pk_in s 13 hs, br_c (fun w => ?_) (fun w => H1 ?_)⟩))⟩)
  · rintro ⟨i, j, h1, h2, e1, e2⟩
    rw [e1] at z
    exact nI_pos (by omega) z
  · rintro ⟨i, j, h1, h2, e1, e2⟩
    rw [e1] at y
    exact nI_ge h1 (by omega) y
  · rintro ⟨i, j, h1, h2, e1, e2⟩
    rw [e2] at x
    exact nI_pos (by omega) x
  · obtain ⟨i, hi, e1⟩ := nI_of z
    obtain ⟨j, hj, e2⟩ := nI_of x
    rw [e1] at y
    rw [e2] at w
    have h2 := (nI_ltI hj (by omega)).mp w
    have h1 : ¬ n ≤ i := fun h => y ((nI_leI (by omega) hi).mpr h)
    exact H0 i j (by omega) h2 e1 e2
  · rintro ⟨i, j, h1, h2, e1, e2⟩
    rw [e2] at w
    exact w (nI_lt h2 (by omega))
theorem zf_pos52 {post : Int32 → Prop} {s rk n m f l p : Nat} {V : Nat → Nat → Int32} (hs : s < 13) (sh : zf_sh rk n m f) (h : zf_slot s rk n m f V a1 a2 a3 a4 a5 a6 a7 a8 a9) (hl : l < zf_C rk n m f) (hp : p < zf_W rk n m f)
    (H1 : ∀ e, e < 36 → a9 (36 * s + e) = V l p → post (nI e)) (H0 : V l p = 0 → post (-1)) : wX_position_52 post (nI s) (nI l) (nI p) g1 g2 g3 g4 a1 a2 a3 a4 a5 a6 a7 a8 a9 a10 a11 a12 a13 a14 a15 a16 a17 a18 a19 a20 a21 a22 a23 a24 a25 a26 a27 a28 := by
  have hC := zf_shC sh
  have hW := zf_shW sh
  unfold wX_position_52
  refine zf_findLine hs hC.2 hl h.2 (fun hk => br_f (zf_nm1 (by have := zf_cLe (zf_k (zf_sl rk f) (zf_W rk n m f) V) l; omega)) (zf_findPlace hs hC.2 hW.2 hl hp hk h.2 (fun hq => ?_) (fun hq => H0 (zf_qF hq)))) (fun hk => br_t rfl (H0 (zf_kF hk hp)))
  have o1 := zf_oL (w := zf_w (zf_sp rk f) (zf_W rk n m f) V) hk hl
  have o2 := zf_oB (k := zf_k (zf_sl rk f) (zf_W rk n m f) V) (zf_wB (sp := zf_sp rk f) (V := V) hW.2) (zf_C rk n m f)
  have o3 : zf_cnt (zf_q (zf_sp rk f) (V l)) p < zf_w (zf_sp rk f) (zf_W rk n m f) V l := zf_cL hq hp
  exact H1 _ (by omega) ((h.2.2.2 l hl hk).2.2 p hp hq).2
theorem zf_position {post : Int32 → Prop} {s rk n m f i j : Nat} {V : Nat → Nat → Int32} (hs : s < 13) (sh : zf_sh rk n m f) (h : zf_slot s rk n m f V a1 a2 a3 a4 a5 a6 a7 a8 a9) (hi : i < n) (hj : j < m)
    (H1 : ∀ e, e < 36 → a9 (36 * s + e) = V (zf_li rk f i j) (zf_pi rk f i j) → post (nI e)) (H0 : V (zf_li rk f i j) (zf_pi rk f i j) = 0 → post (-1)) : wpX_position post (g1, g2, g3, g4, a1, a2, a3, a4, a5, a6, a7, a8, a9, a10, a11, a12, a13, a14, a15, a16, a17, a18, a19, a20, a21, a22, a23, a24, a25, a26, a27, a28) (nI s) (nI i) (nI j) := by
  have hb := zf_shB sh
  have hd := h.1
  have hB := zf_liB sh hi hj
  unfold wpX_position
  dsimp only
  rw [zf_cl hs, hd.1]
  refine ⟨pk_in s 13 hs, pk_le 2 rk (fun z => zf_isTurned hs sh hd (fun y => br_t rfl ?_) (fun y => br_f (by decide) ?_)) (fun z => ?_)⟩
  · have e1 : zf_li rk f i j = i := by unfold zf_li; rw [if_neg (by omega), if_pos (by omega)]
    have e2 : zf_pi rk f i j = j := by unfold zf_pi; rw [if_neg (by omega), if_pos (by omega)]
    rw [e1, e2] at H1 H0 hB
    unfold wX_position_27
    rw [zf_cl hs, hd.1]
    exact ⟨pk_in s 13 hs, pk_lt rk 2 (fun x => absurd x (by omega)) (fun _ => zf_isTurned hs sh hd (fun _ => br_t rfl (zf_pos52 hs sh h hB.1 hB.2 H1 H0)) (fun x => absurd x y))⟩
  · have e1 : zf_li rk f i j = j := by unfold zf_li; rw [if_neg (by omega), if_neg (by omega)]
    have e2 : zf_pi rk f i j = i := by unfold zf_pi; rw [if_neg (by omega), if_neg (by omega)]
    rw [e1, e2] at H1 H0 hB
    unfold wX_position_27
    rw [zf_cl hs, hd.1]
    exact ⟨pk_in s 13 hs, pk_lt rk 2 (fun x => absurd x (by omega)) (fun _ => zf_isTurned hs sh hd (fun x => absurd y x) (fun _ => br_f (by decide) (zf_pos52 hs sh h hB.1 hB.2 H1 H0)))⟩
  · have e1 : zf_li rk f i j = 0 := by unfold zf_li; rw [if_pos (by omega)]
    have e2 : zf_pi rk f i j = i := by unfold zf_pi; rw [if_pos (by omega)]
    rw [e1, e2] at H1 H0 hB
    unfold wX_position_27
    rw [zf_cl hs, hd.1]
    exact ⟨pk_in s 13 hs, pk_lt rk 2 (fun _ => zf_pos52 hs sh h hB.1 hB.2 H1 H0) (fun x => absurd x (by omega))⟩
theorem zf_getR {post : Int32 → Prop} {r p1 p2 : Int32} (hr : r < 0 ∨ 5 < r) (H : post (-1000000001)) : wpX_get post (g1, g2, g3, g4, a1, a2, a3, a4, a5, a6, a7, a8, a9, a10, a11, a12, a13, a14, a15, a16, a17, a18, a19, a20, a21, a22, a23, a24, a25, a26, a27, a28) r p1 p2 := by
  unfold wpX_get
  dsimp only
  exact zf_reg1 hr (br_f (by decide) H)
theorem zf_get {post : Int32 → Prop} {s rk n m f : Nat} {p1 p2 : Int32} {V : Nat → Nat → Int32} (hs : s < 6) (sh : zf_sh rk n m f) (h : zf_slot s rk n m f V a1 a2 a3 a4 a5 a6 a7 a8 a9)
    (H0 : ∀ i j : Nat, i < n → j < m → p1 = nI i → p2 = nI j → post (V (zf_li rk f i j) (zf_pi rk f i j))) (H1 : ¬ (∃ i j : Nat, i < n ∧ j < m ∧ p1 = nI i ∧ p2 = nI j) → post (-1000000004)) : wpX_get post (g1, g2, g3, g4, a1, a2, a3, a4, a5, a6, a7, a8, a9, a10, a11, a12, a13, a14, a15, a16, a17, a18, a19, a20, a21, a22, a23, a24, a25, a26, a27, a28) (nI s) p1 p2 := by
  unfold wpX_get
  dsimp only
  refine zf_reg0 hs (br_t rfl (zf_noPlace (by omega) sh h.1 (fun i j hi hj e1 e2 => br_t rfl ?_) (fun z => br_f (by decide) (H1 z))))
  have g := H0 i j hi hj e1 e2
  rw [e1, e2]
  refine zf_position (by omega) sh h hi hj (fun e he hv => br_f (zf_nm1 (by omega)) ?_) (fun hv => br_t rfl ?_)
  · rw [zf_i36, nI_clamp (by omega), hv]
    exact ⟨vp_in_nI (by omega) (by omega), g⟩
  · rw [hv] at g
    exact g
theorem zf_roomR {post : Int32 → Prop} {r : Int32} (hr : r < 0 ∨ 5 < r) (H : post (-1000000001)) : wpX_room post (g1, g2, g3, g4, a1, a2, a3, a4, a5, a6, a7, a8, a9, a10, a11, a12, a13, a14, a15, a16, a17, a18, a19, a20, a21, a22, a23, a24, a25, a26, a27, a28) r := by
  unfold wpX_room
  dsimp only
  exact zf_reg1 hr (br_f (by decide) H)
theorem zf_room {post : Int32 → Prop} {s rk n m f : Nat} {V : Nat → Nat → Int32} (hs : s < 6) (sh : zf_sh rk n m f) (h : zf_slot s rk n m f V a1 a2 a3 a4 a5 a6 a7 a8 a9)
    (H : post (nI (zf_off (zf_k (zf_sl rk f) (zf_W rk n m f) V) (zf_w (zf_sp rk f) (zf_W rk n m f) V) (zf_C rk n m f)))) : wpX_room post (g1, g2, g3, g4, a1, a2, a3, a4, a5, a6, a7, a8, a9, a10, a11, a12, a13, a14, a15, a16, a17, a18, a19, a20, a21, a22, a23, a24, a25, a26, a27, a28) (nI s) := by
  have hc := zf_cLe (zf_k (zf_sl rk f) (zf_W rk n m f) V) (zf_C rk n m f)
  have hC := zf_shC sh
  unfold wpX_room
  dsimp only
  refine zf_reg0 hs (br_t rfl ?_)
  unfold wpX_roomOf
  dsimp only
  rw [zf_cl (by omega), h.2.1, zf_i7, nI_clamp (by omega), h.2.2.1]
  exact ⟨pk_in s 13 (by omega), vp_in_nI (by omega) (by omega), H⟩
theorem zf_patternR {post : Int32 → Prop} {r p1 : Int32} (hr : r < 0 ∨ 5 < r) (H : post (-1000000001)) : wpX_pattern post (g1, g2, g3, g4, a1, a2, a3, a4, a5, a6, a7, a8, a9, a10, a11, a12, a13, a14, a15, a16, a17, a18, a19, a20, a21, a22, a23, a24, a25, a26, a27, a28) r p1 := by
  unfold wpX_pattern
  dsimp only
  exact zf_reg1 hr (br_f (by decide) H)
theorem zf_pat33 {post : Int32 → Prop} {s rk n m f i j0 : Nat} {y : Int32} {V : Nat → Nat → Int32} (hs : s < 6) (sh : zf_sh rk n m f) (h : zf_slot s rk n m f V a1 a2 a3 a4 a5 a6 a7 a8 a9) (hi : i < n)
    (hrow : ∀ j, j < m → V (zf_li rk f i j) (zf_pi rk f i j) = if j = j0 then y else 0) (H : post (if ¬ y = 0 ∧ j0 < m then (1 : Int32) <<< (nI j0 &&& 31) else 0)) :
    ∃ fu, wX_pattern_33 post (nI s) (nI i) g1 g2 g3 g4 a1 a2 a3 a4 a5 a6 a7 a8 a9 a10 a11 a12 a13 a14 a15 a16 a17 a18 a19 a20 a21 a22 a23 a24 a25 a26 a27 a28 fu 0 0 := by
  have hb := zf_shB sh
  refine pk_loop (σ := Int32) (fun k j x => wX_pattern_33 post (nI s) (nI i) g1 g2 g3 g4 a1 a2 a3 a4 a5 a6 a7 a8 a9 a10 a11 a12 a13 a14 a15 a16 a17 a18 a19 a20 a21 a22 a23 a24 a25 a26 a27 a28 k x (nI j)) (fun j x => x = if ¬ y = 0 ∧ j0 < j then (1 : Int32) <<< (nI j0 &&& 31) else 0) m 0 0 (Nat.zero_le _) (by rw [if_neg (by omega)]) ?_ ?_
  · rintro k x rfl
    exact ⟨pk_in s 13 (by omega), pk_le m m (fun _ => H) (fun z => absurd z (by omega)) (by rw [zf_cl (by omega)]; exact h.1.2.2.1)⟩
  · rintro k j x hj hx hw
    refine ⟨pk_in s 13 (by omega), pk_le m j (fun z => absurd z (by omega)) (fun _ => zf_get hs sh h (fun i' j' hi' hj' e1 e2 => ?_) (fun z => absurd ⟨i, j, hi, hj, rfl, rfl⟩ z)) (by rw [zf_cl (by omega)]; exact h.1.2.2.1)⟩
    have q1 : i = i' := (nI_eq (by omega) (by omega)).mp e1
    have q2 : j = j' := (nI_eq (by omega) (by omega)).mp e2
    rw [← q1, ← q2, hrow j hj]
    by_cases e : j = j0
    · rw [if_pos e]
      refine br_c (fun z => nm_r (nI_1 j) (hw x ?_)) (fun z => nm_e (nm_r (nI_1 j) (hw _ ?_)))
      · rw [hx, if_neg (fun w => w.1 z), if_neg (fun w => w.1 z)]
      · rw [hx, if_neg (by omega), if_pos ⟨z, by omega⟩, Int32.zero_or, e]
    · rw [if_neg e]
      refine br_t rfl (nm_r (nI_1 j) (hw x ?_))
      rw [hx]
      by_cases w : ¬ y = 0 ∧ j0 < j
      · rw [if_pos w, if_pos ⟨w.1, by omega⟩]
      · rw [if_neg w, if_neg (fun u => w ⟨u.1, by omega⟩)]
theorem zf_pattern {post : Int32 → Prop} {s rk n m f j0 : Nat} {p1 y : Int32} {V : Nat → Nat → Int32} (hs : s < 6) (sh : zf_sh rk n m f) (h : zf_slot s rk n m f V a1 a2 a3 a4 a5 a6 a7 a8 a9)
    (hrow : ∀ i, p1 = nI i → i < n → ∀ j, j < m → V (zf_li rk f i j) (zf_pi rk f i j) = if j = j0 then y else 0) (H0 : ∀ i, i < n → p1 = nI i → post (if ¬ y = 0 ∧ j0 < m then (1 : Int32) <<< (nI j0 &&& 31) else 0)) (H1 : ¬ (∃ i : Nat, i < n ∧ p1 = nI i) → post (-1000000004)) :
    wpX_pattern post (g1, g2, g3, g4, a1, a2, a3, a4, a5, a6, a7, a8, a9, a10, a11, a12, a13, a14, a15, a16, a17, a18, a19, a20, a21, a22, a23, a24, a25, a26, a27, a28) (nI s) p1 := by
  have hb := zf_shB sh
  unfold wpX_pattern
  dsimp only
  rw [zf_cl (by omega), h.1.2.1]
  refine zf_reg0 hs (br_t rfl (br_c (fun z => H1 ?_) (fun z => ⟨pk_in s 13 (by omega), ?_⟩)))
  · rintro ⟨i, h1, e1⟩
    rw [e1] at z
    exact nI_pos (by omega) z
  · obtain ⟨i, hi, e1⟩ := nI_of z
    subst e1
    exact pk_lt i n (fun w => zf_pat33 hs sh h w (hrow i rfl w) (H0 i w rfl)) (fun w => H1 (fun ⟨i', h1, e1⟩ => absurd ((nI_eq (by omega) (by omega)).mp e1) (by omega)))
end
end
section
/-! unpacking, put -/
section
variable {g1 g2 g3 g4 : Int32} {a1 a2 a3 a4 a5 a6 a7 a8 a9 a10 a11 a12 a13 a14 a15 a16 a17 a18 a19 a20 a21 a22 a23 a24 a25 a26 a27 a28 : Nat → Int32}
theorem zf_120 {post : St2 → Prop} {J6 J : Int32 → (Nat → Int32) → (Nat → Int32) → (Nat → Int32) → (Nat → Int32) → (Nat → Int32) → (Nat → Int32) → (Nat → Int32) → (Nat → Int32) → (Nat → Int32) → (Nat → Int32) → (Nat → Int32) → (Nat → Int32) → (Nat → Int32) → (Nat → Int32) → (Nat → Int32) → (Nat → Int32) → (Nat → Int32) → (Nat → Int32) → (Nat → Int32) → (Nat → Int32) → (Nat → Int32) → (Nat → Int32) → (Nat → Int32) → (Nat → Int32) → (Nat → Int32) → (Nat → Int32) → (Nat → Int32) → (Nat → Int32) → Prop} {s e k : Nat} {x2 x3 x4 z : Int32} (hs : s < 13) (he : e < 36) (hk : k < 36) (hz : z = nI k) (hJ : J (nI (e + 1)) a1 a2 a3 a4 a5 a6 a7 a8 a9 a10 a11 a12 a13 a14 a15 a16 a17 (upd a18 k (a9 (36 * s + e))) a19 a20 a21 a22 a23 a24 a25 a26 a27 a28) : wX_unpack_120 post J6 J (nI s) x2 x3 x4 (nI e) z g1 g2 g3 g4 a1 a2 a3 a4 a5 a6 a7 a8 a9 a10 a11 a12 a13 a14 a15 a16 a17 a18 a19 a20 a21 a22 a23 a24 a25 a26 a27 a28 := by
  unfold wX_unpack_120
  rw [hz, zf_i36, nI_clamp (show 36 * s + e < 2 ^ 31 by omega), nI_clamp (show k < 2 ^ 31 by omega)]
  exact ⟨vp_in_nI (by omega) (by omega), vp_in_nI hk (by omega), nm_e (nm_r (nI_1 e) hJ)⟩
theorem zf_unpack {post : St2 → Prop} {s rk n m f : Nat} {V : Nat → Nat → Int32} (hs : s < 13) (sh : zf_sh rk n m f) (h : zf_slot s rk n m f V a1 a2 a3 a4 a5 a6 a7 a8 a9)
    (H : ∀ b : Nat → Int32, ((∀ l, l < zf_C rk n m f → ∀ p, p < zf_W rk n m f → V l p = 0) → ∀ k, k < 36 → b k = 0) → post (g1, g2, g3, g4, a1, a2, a3, a4, a5, a6, a7, a8, a9, a10, a11, a12, a13, a14, a15, a16, a17, b, a19, a20, a21, a22, a23, a24, a25, a26, a27, a28)) : wpX_unpack post (g1, g2, g3, g4, a1, a2, a3, a4, a5, a6, a7, a8, a9, a10, a11, a12, a13, a14, a15, a16, a17, a18, a19, a20, a21, a22, a23, a24, a25, a26, a27, a28) (nI s) := by
  have hb := zf_shB sh
  have hC := zf_shC sh
  have hW := zf_shW sh
  have hc := zf_cLe (zf_k (zf_sl rk f) (zf_W rk n m f) V) (zf_C rk n m f)
  have hd := h.1
  have hr := h.2
  unfold wpX_unpack
  dsimp only
  refine zf_clear (fun c hc0 => ?_)
  refine pk_loop (fun k i t => wX_unpack_6 post (nI s) g1 g2 g3 g4 k (nI i) a1 a2 a3 a4 a5 a6 a7 a8 a9 a10 a11 a12 a13 a14 a15 a16 a17 t a19 a20 a21 a22 a23 a24 a25 a26 a27 a28) (fun i t => (∀ l, l < zf_C rk n m f → ∀ p, p < zf_W rk n m f → V l p = 0) → ∀ k, k < 36 → t k = 0) (zf_cnt (zf_k (zf_sl rk f) (zf_W rk n m f) V) (zf_C rk n m f)) 0 c (Nat.zero_le _) (fun _ => hc0) ?_ ?_
  · intro k t ht
    exact ⟨pk_in s 13 hs, pk_le (zf_cnt (zf_k (zf_sl rk f) (zf_W rk n m f) V) (zf_C rk n m f)) (zf_cnt (zf_k (zf_sl rk f) (zf_W rk n m f) V) (zf_C rk n m f)) (fun _ => H t ht) (fun z => absurd z (by omega)) (by rw [zf_cl hs]; exact hr.1)⟩
  · intro k i t hi ht hw
    obtain ⟨l, l1, l2, l3, l4⟩ := zf_repL hr hi
    obtain ⟨_, r2, r3⟩ := hr.2.2 l l1 l2
    have r4 := zf_repE hr l1 l2
    rw [l3] at r2 r4
    have o1 := zf_oL (w := zf_w (zf_sp rk f) (zf_W rk n m f) V) l2 l1
    have o2 := zf_oB (k := zf_k (zf_sl rk f) (zf_W rk n m f) V) (zf_wB (sp := zf_sp rk f) (V := V) hW.2) (zf_C rk n m f)
    have ew : zf_w (zf_sp rk f) (zf_W rk n m f) V l = zf_cnt (zf_q (zf_sp rk f) (V l)) (zf_W rk n m f) := rfl
    rw [ew] at r4 o1
    generalize zf_off (zf_k (zf_sl rk f) (zf_W rk n m f) V) (zf_w (zf_sp rk f) (zf_W rk n m f) V) l = o at *
    refine ⟨pk_in s 13 hs, pk_le (zf_cnt (zf_k (zf_sl rk f) (zf_W rk n m f) V) (zf_C rk n m f)) i (fun z => absurd z (by omega)) (fun _ => ?_) (by rw [zf_cl hs]; exact hr.1)⟩
    refine ⟨by rw [zf_i6]; exact vp_in_nI (by omega) (by omega), nm_r (e' := nI l) (by rw [zf_i6, nI_clamp (by omega)]; exact l4) ?_⟩
    refine ⟨by rw [zf_i7, nI_1]; exact vp_in_nI (by omega) (by omega), nm_r (e' := nI (o + zf_cnt (zf_q (zf_sp rk f) (V l)) (zf_W rk n m f))) (by rw [zf_i7, nI_1, nI_clamp (by omega)]; exact r4) ?_⟩
    refine ⟨by rw [zf_i7]; exact vp_in_nI (by omega) (by omega), nm_r (e' := nI o) (by rw [zf_i7, nI_clamp (by omega)]; exact r2) ?_⟩
    refine pk_loop (fun k' e t => wX_unpack_56 post (wX_unpack_6 post (nI s) g1 g2 g3 g4 k) (nI s) (nI i) (nI l) (nI (o + zf_cnt (zf_q (zf_sp rk f) (V l)) (zf_W rk n m f))) g1 g2 g3 g4 k' (nI e) a1 a2 a3 a4 a5 a6 a7 a8 a9 a10 a11 a12 a13 a14 a15 a16 a17 t a19 a20 a21 a22 a23 a24 a25 a26 a27 a28) (fun e t => o ≤ e ∧ ((∀ l, l < zf_C rk n m f → ∀ p, p < zf_W rk n m f → V l p = 0) → ∀ k, k < 36 → t k = 0)) (o + zf_cnt (zf_q (zf_sp rk f) (V l)) (zf_W rk n m f)) o t (Nat.le_add_right _ _) ⟨Nat.le_refl _, ht⟩ ?_ ?_
    · intro k' t' ht'
      exact pk_le (o + zf_cnt (zf_q (zf_sp rk f) (V l)) (zf_W rk n m f)) (o + zf_cnt (zf_q (zf_sp rk f) (V l)) (zf_W rk n m f)) (fun _ => nm_r (nI_1 i) (hw t' ht'.2)) (fun z => absurd z (by omega))
    · intro k' e t' he ht' hw'
      obtain ⟨p, p1, p2, p3, p4, p5⟩ := zf_lnL r3 ht'.1 he
      have st : ∀ (z : Int32) (x : Nat), z = nI x → x < 36 → wX_unpack_120 post (wX_unpack_6 post (nI s) g1 g2 g3 g4 k) (wX_unpack_56 post (wX_unpack_6 post (nI s) g1 g2 g3 g4 k) (nI s) (nI i) (nI l) (nI (o + zf_cnt (zf_q (zf_sp rk f) (V l)) (zf_W rk n m f))) g1 g2 g3 g4 k') (nI s) (nI i) (nI l) (nI (o + zf_cnt (zf_q (zf_sp rk f) (V l)) (zf_W rk n m f))) (nI e) z g1 g2 g3 g4 a1 a2 a3 a4 a5 a6 a7 a8 a9 a10 a11 a12 a13 a14 a15 a16 a17 t' a19 a20 a21 a22 a23 a24 a25 a26 a27 a28 := by
        intro z x hz hx
        refine zf_120 hs (by omega) hx hz (hw' _ ⟨by have := ht'.1; omega, fun hZ y hy => ?_⟩)
        by_cases w : y = x
        · rw [w, pk_us, p5]
          exact hZ l l1 p p1
        · rw [pk_un w]
          exact ht'.2 hZ y hy
      refine pk_le (o + zf_cnt (zf_q (zf_sp rk f) (V l)) (zf_W rk n m f)) e (fun z => absurd z (by omega)) (fun _ => ?_)
      refine ⟨by rw [zf_i36]; exact vp_in_nI (by omega) (by omega), nm_r (e' := nI p) (by rw [zf_i36, nI_clamp (by omega)]; exact p4) ?_⟩
      refine ⟨pk_in s 13 hs, pk_le 2 rk (fun z => zf_isTurned hs sh hd (fun y => br_t rfl (st _ _ (zf_i6 l p) (by omega))) (fun y => br_f (by decide) (st _ _ (zf_i6 p l) (by omega)))) (fun z => st _ _ (zf_m6 p) (by omega)) rfl (by rw [zf_cl hs]; exact hd.1)⟩
/-- a slot that holds y at (i0, j0) and 0 elsewhere -/
def zf_st (s rk n m f i0 j0 : Nat) (y : Int32) (a1 a2 a3 a4 a5 a6 a7 a8 a9 : Nat → Int32) : Prop := ∃ V, (∀ l, l < zf_C rk n m f → ∀ p, p < zf_W rk n m f → V l p = if l = zf_li rk f i0 j0 ∧ p = zf_pi rk f i0 j0 then y else 0) ∧ zf_slot s rk n m f V a1 a2 a3 a4 a5 a6 a7 a8 a9
theorem zf_putR {post : Int32 → St2 → Prop} {r p1 p2 p3 : Int32} (hr : r < 0 ∨ 5 < r) (H : post (-1000000001) (g1, g2, g3, g4, a1, a2, a3, a4, a5, a6, a7, a8, a9, a10, a11, a12, a13, a14, a15, a16, a17, a18, a19, a20, a21, a22, a23, a24, a25, a26, a27, a28)) : wpX_put post (g1, g2, g3, g4, a1, a2, a3, a4, a5, a6, a7, a8, a9, a10, a11, a12, a13, a14, a15, a16, a17, a18, a19, a20, a21, a22, a23, a24, a25, a26, a27, a28) r p1 p2 p3 := by
  unfold wpX_put
  dsimp only
  exact zf_reg1 hr (br_f (by decide) H)
theorem zf_put84 {post : Int32 → St2 → Prop} {s rk n m f i j : Nat} {x : Int32} {V : Nat → Nat → Int32} (hs : s < 6) (sh : zf_sh rk n m f) (h : zf_slot s rk n m f V a1 a2 a3 a4 a5 a6 a7 a8 a9) (hV : ∀ l, l < zf_C rk n m f → ∀ p, p < zf_W rk n m f → V l p = 0) (hi : i < n) (hj : j < m)
    (H : ∀ b1 b2 b3 b4 b5 b6 b7 b8 b9 b18 : Nat → Int32, zf_st s rk n m f i j x b1 b2 b3 b4 b5 b6 b7 b8 b9 → post 0 (g1, g2, g3, g4, b1, b2, b3, b4, b5, b6, b7, b8, b9, a10, a11, a12, a13, a14, a15, a16, a17, b18, a19, a20, a21, a22, a23, a24, a25, a26, a27, a28)) : wX_put_84 post (nI s) (nI i) (nI j) x 0 g1 g2 g3 g4 a1 a2 a3 a4 a5 a6 a7 a8 a9 a10 a11 a12 a13 a14 a15 a16 a17 a18 a19 a20 a21 a22 a23 a24 a25 a26 a27 a28 := by
  have hb := zf_shB sh
  have hC := zf_shC sh
  have hW := zf_shW sh
  unfold wX_put_84
  refine br_c (fun z => ?_) (fun z => zf_unpack (by omega) sh h (fun c hc => ?_))
  · refine H a1 a2 a3 a4 a5 a6 a7 a8 a9 a18 ⟨V, fun l hl p hp => ?_, h⟩
    rw [hV l hl p hp, ← z]
    split <;> rfl
  · dsimp only
    rw [zf_i6, zf_cl (s := s) (by omega), h.1.1, h.1.2.1, h.1.2.2.1, h.1.2.2.2, nI_clamp (show 6 * i + j < 2 ^ 31 by omega)]
    refine ⟨vp_in_nI (by omega) (by omega), nm_e ⟨pk_in s 13 (by omega), pk_in s 13 (by omega), pk_in s 13 (by omega), pk_in s 13 (by omega), ?_⟩⟩
    refine zf_pack (V := fun l p => upd c (6 * i + j) x (zf_ix rk f l p)) (by omega) sh (fun l p => rfl) (fun b1 b2 b3 b4 b5 b6 b7 b8 b9 hsl _ _ => H _ _ _ _ _ _ _ _ _ _ ⟨_, fun l hl p hp => ?_, hsl⟩)
    by_cases e : zf_ix rk f l p = 6 * i + j
    · rw [if_pos ((zf_ixI sh hi hj hl hp).mp e), e, pk_us]
    · rw [if_neg (fun w => e ((zf_ixI sh hi hj hl hp).mpr w)), pk_un e]
      exact hc hV _ (zf_ixB sh (by omega) (by omega))
theorem zf_put {post : Int32 → St2 → Prop} {s rk n m f : Nat} {p1 p2 x : Int32} {V : Nat → Nat → Int32} (hs : s < 6) (sh : zf_sh rk n m f) (h : zf_slot s rk n m f V a1 a2 a3 a4 a5 a6 a7 a8 a9) (hV : ∀ l, l < zf_C rk n m f → ∀ p, p < zf_W rk n m f → V l p = 0)
    (H0 : ∀ i j : Nat, i < n → j < m → p1 = nI i → p2 = nI j → ∀ b1 b2 b3 b4 b5 b6 b7 b8 b9 b18 : Nat → Int32, zf_st s rk n m f i j x b1 b2 b3 b4 b5 b6 b7 b8 b9 → post 0 (g1, g2, g3, g4, b1, b2, b3, b4, b5, b6, b7, b8, b9, a10, a11, a12, a13, a14, a15, a16, a17, b18, a19, a20, a21, a22, a23, a24, a25, a26, a27, a28))
    (H1 : ¬ (∃ i j : Nat, i < n ∧ j < m ∧ p1 = nI i ∧ p2 = nI j) → post (-1000000004) (g1, g2, g3, g4, a1, a2, a3, a4, a5, a6, a7, a8, a9, a10, a11, a12, a13, a14, a15, a16, a17, a18, a19, a20, a21, a22, a23, a24, a25, a26, a27, a28)) : wpX_put post (g1, g2, g3, g4, a1, a2, a3, a4, a5, a6, a7, a8, a9, a10, a11, a12, a13, a14, a15, a16, a17, a18, a19, a20, a21, a22, a23, a24, a25, a26, a27, a28) (nI s) p1 p2 x := by
  unfold wpX_put
  dsimp only
  refine zf_reg0 hs (br_t rfl (zf_noPlace (by omega) sh h.1 (fun i j hi hj e1 e2 => br_t rfl ?_) (fun z => br_f (by decide) (H1 z))))
  have hB := zf_liB sh hi hj
  have hz := hV _ hB.1 _ hB.2
  have g := H0 i j hi hj e1 e2
  rw [e1, e2]
  refine zf_position (by omega) sh h hi hj (fun e he hv => br_f (zf_nm1 (by omega)) ?_) (fun hv => br_t rfl ?_)
  · rw [zf_i36, nI_clamp (by omega), hv, hz]
    exact ⟨vp_in_nI (by omega) (by omega), br_t rfl (zf_put84 hs sh h hV hi hj g)⟩
  · exact br_t rfl (zf_put84 hs sh h hV hi hj g)
end
end
section
/-! make, array -/
def zf_vd (a b c rk n m : Nat) : Prop := (a = 0 ∧ b = 0 ∧ c = 0 ∧ rk = 0 ∧ n = 1 ∧ m = 1) ∨ (1 ≤ a ∧ a ≤ 6 ∧ b = 0 ∧ c ≤ 1 ∧ rk = 1 ∧ n = a ∧ m = 1) ∨ (1 ≤ a ∧ a ≤ 6 ∧ 1 ≤ b ∧ b ≤ 6 ∧ c ≤ 7 ∧ rk = 2 ∧ n = a ∧ m = b)
theorem zf_vdS {a b c rk n m : Nat} (h : zf_vd a b c rk n m) : zf_sh rk n m c := by
  unfold zf_vd at h
  unfold zf_sh
  omega
def zf_mo (rk : Nat) : Nat := if rk = 0 then 0 else if rk = 1 then 1 else 7
theorem zf_of6 {x : Int32} (h0 : ¬ x < 0) (h6 : ¬ 6 < x) : ∃ a : Nat, a ≤ 6 ∧ x = nI a := by
  obtain ⟨j, hj, e⟩ := nI_of h0
  subst e
  refine ⟨j, ?_, rfl⟩
  rcases Nat.lt_or_ge 6 j with z | z
  · exact absurd (nI_lt z hj) h6
  · exact z
section
variable {g1 g2 g3 g4 : Int32} {a1 a2 a3 a4 a5 a6 a7 a8 a9 a10 a11 a12 a13 a14 a15 a16 a17 a18 a19 a20 a21 a22 a23 a24 a25 a26 a27 a28 : Nat → Int32}
theorem zf_bf19 {post : Int32 → Prop} {f : Int32} {k : Nat} (hk : k < 100) (H0 : ∀ c : Nat, c ≤ k → f = nI c → post 0) (H1 : ¬ (∃ c : Nat, c ≤ k ∧ f = nI c) → post 1) : wX_badFormat_19 post f (nI k) g1 g2 g3 g4 a1 a2 a3 a4 a5 a6 a7 a8 a9 a10 a11 a12 a13 a14 a15 a16 a17 a18 a19 a20 a21 a22 a23 a24 a25 a26 a27 a28 := by
  unfold wX_badFormat_19
  refine br_c (fun z => H1 ?_) (fun z => ?_)
  · rintro ⟨c, h1, e⟩
    rw [e] at z
    exact nI_pos (by omega) z
  · obtain ⟨c, hc, e⟩ := nI_of z
    subst e
    exact pk_le c k (fun y => H0 c y rfl) (fun y => H1 (fun ⟨c', h1, e⟩ => absurd ((nI_eq (by omega) (by omega)).mp e) (by omega)))
theorem zf_badFormat {post : Int32 → Prop} {f : Int32} {rk : Nat} (hr : rk ≤ 2) (H0 : ∀ c : Nat, c ≤ zf_mo rk → f = nI c → post 0) (H1 : ¬ (∃ c : Nat, c ≤ zf_mo rk ∧ f = nI c) → post 1) : wpX_badFormat post (g1, g2, g3, g4, a1, a2, a3, a4, a5, a6, a7, a8, a9, a10, a11, a12, a13, a14, a15, a16, a17, a18, a19, a20, a21, a22, a23, a24, a25, a26, a27, a28) (nI rk) f := by
  unfold zf_mo at H0 H1
  unfold wpX_badFormat
  dsimp only
  refine pk_eq rk 0 (fun z => zf_bf19 (k := 0) (by omega) (fun c hc e => ?_) (fun y => ?_)) (fun z => pk_eq rk 1 (fun w => zf_bf19 (k := 1) (by omega) (fun c hc e => ?_) (fun y => ?_)) (fun w => zf_bf19 (k := 7) (by omega) (fun c hc e => ?_) (fun y => ?_)))
  · rw [if_pos z] at H0
    exact H0 c hc e
  · rw [if_pos z] at H1
    exact H1 y
  · rw [if_neg z, if_pos w] at H0
    exact H0 c hc e
  · rw [if_neg z, if_pos w] at H1
    exact H1 y
  · rw [if_neg z, if_neg w] at H0
    exact H0 c hc e
  · rw [if_neg z, if_neg w] at H1
    exact H1 y
theorem zf_mk107 {post : Int32 → St2 → Prop} {s rk n m c : Nat} (hs : s < 6) (sh : zf_sh rk n m c) (h18 : ∀ k, k < 36 → a18 k = 0)
    (H : ∀ b1 b2 b3 b4 b5 b6 b7 b8 b9 : Nat → Int32, zf_st s rk n m c 0 0 0 b1 b2 b3 b4 b5 b6 b7 b8 b9 → post (nI rk) (g1, g2, g3, g4, b1, b2, b3, b4, b5, b6, b7, b8, b9, a10, a11, a12, a13, a14, a15, a16, a17, a18, a19, a20, a21, a22, a23, a24, a25, a26, a27, a28)) : wX_make_107 post (nI c) (nI rk) (nI m) (nI n) (nI rk) (nI s) g1 g2 g3 g4 a1 a2 a3 a4 a5 a6 a7 a8 a9 a10 a11 a12 a13 a14 a15 a16 a17 a18 a19 a20 a21 a22 a23 a24 a25 a26 a27 a28 := by
  have hC := zf_shC sh
  have hW := zf_shW sh
  unfold wX_make_107
  refine zf_pack (V := fun l p => a18 (zf_ix rk c l p)) (by omega) sh (fun l p => rfl) (fun b1 b2 b3 b4 b5 b6 b7 b8 b9 hsl _ _ => H b1 b2 b3 b4 b5 b6 b7 b8 b9 ⟨_, fun l hl p hp => ?_, hsl⟩)
  rw [h18 _ (zf_ixB sh (by omega) (by omega))]
  split <;> rfl
theorem zf_mk98 {post : Int32 → St2 → Prop} {s rk n m c b : Nat} (hs : s < 6) (sh : zf_sh rk n m c) (hb : b ≤ 6) (hm : (b = 0 ∧ m = 1) ∨ (b ≠ 0 ∧ m = b)) (h18 : ∀ k, k < 36 → a18 k = 0)
    (H : ∀ b1 b2 b3 b4 b5 b6 b7 b8 b9 : Nat → Int32, zf_st s rk n m c 0 0 0 b1 b2 b3 b4 b5 b6 b7 b8 b9 → post (nI rk) (g1, g2, g3, g4, b1, b2, b3, b4, b5, b6, b7, b8, b9, a10, a11, a12, a13, a14, a15, a16, a17, a18, a19, a20, a21, a22, a23, a24, a25, a26, a27, a28)) : wX_make_98 post (nI b) (nI c) (nI rk) (nI n) (nI rk) (nI s) g1 g2 g3 g4 a1 a2 a3 a4 a5 a6 a7 a8 a9 a10 a11 a12 a13 a14 a15 a16 a17 a18 a19 a20 a21 a22 a23 a24 a25 a26 a27 a28 := by
  unfold wX_make_98
  refine pk_eq b 0 (fun z => ?_) (fun z => ?_)
  · have e : m = 1 := by omega
    subst e
    exact zf_mk107 hs sh h18 H
  · have e : m = b := by omega
    subst e
    exact zf_mk107 hs sh h18 H
theorem zf_mk60 {post : Int32 → St2 → Prop} {s a b rk n m : Nat} {f : Int32} (hs : s < 6) (hr : (a = 0 ∧ b = 0 ∧ rk = 0 ∧ n = 1 ∧ m = 1) ∨ (1 ≤ a ∧ a ≤ 6 ∧ b = 0 ∧ rk = 1 ∧ n = a ∧ m = 1) ∨ (1 ≤ a ∧ a ≤ 6 ∧ 1 ≤ b ∧ b ≤ 6 ∧ rk = 2 ∧ n = a ∧ m = b))
    (HV : ∀ c rk n m : Nat, zf_vd a b c rk n m → f = nI c → ∀ b1 b2 b3 b4 b5 b6 b7 b8 b9 b18 : Nat → Int32, zf_st s rk n m c 0 0 0 b1 b2 b3 b4 b5 b6 b7 b8 b9 → post (nI rk) (g1, g2, g3, g4, b1, b2, b3, b4, b5, b6, b7, b8, b9, a10, a11, a12, a13, a14, a15, a16, a17, b18, a19, a20, a21, a22, a23, a24, a25, a26, a27, a28))
    (HB : ¬ (∃ c rk n m : Nat, zf_vd a b c rk n m ∧ f = nI c) → post (-1000000001) (g1, g2, g3, g4, a1, a2, a3, a4, a5, a6, a7, a8, a9, a10, a11, a12, a13, a14, a15, a16, a17, a18, a19, a20, a21, a22, a23, a24, a25, a26, a27, a28)) : wX_make_60 post (nI s) (nI a) (nI b) f 0 (nI rk) g1 g2 g3 g4 a1 a2 a3 a4 a5 a6 a7 a8 a9 a10 a11 a12 a13 a14 a15 a16 a17 a18 a19 a20 a21 a22 a23 a24 a25 a26 a27 a28 := by
  have hmo : zf_mo 0 = 0 ∧ zf_mo 1 = 1 ∧ zf_mo 2 = 7 := ⟨rfl, rfl, rfl⟩
  unfold wX_make_60
  refine br_t rfl (zf_badFormat (by omega) (fun c hc ec => br_t rfl (zf_clear (fun d hd => ?_))) (fun z => br_f (by decide) (HB (fun ⟨c, rk', n', m', hv, e⟩ => z ⟨c, ?_, e⟩))))
  · have hv : zf_vd a b c rk n m := by
      unfold zf_vd
      rcases hr with h | h | h
      · rw [h.2.2.1, hmo.1] at hc
        omega
      · rw [h.2.2.2.1, hmo.2.1] at hc
        omega
      · rw [h.2.2.2.2.1, hmo.2.2] at hc
        omega
    have sh := zf_vdS hv
    have g := fun b1 b2 b3 b4 b5 b6 b7 b8 b9 => HV c rk n m hv ec b1 b2 b3 b4 b5 b6 b7 b8 b9 d
    subst ec
    refine pk_eq a 0 (fun z => ?_) (fun z => ?_)
    · have e : n = 1 := by omega
      subst e
      exact zf_mk98 hs sh (by omega) (by omega) hd g
    · have e : n = a := by omega
      subst e
      exact zf_mk98 hs sh (by omega) (by omega) hd g
  · unfold zf_vd at hv
    rcases hr with h | h | h
    · rw [h.2.2.1, hmo.1]
      omega
    · rw [h.2.2.2.1, hmo.2.1]
      omega
    · rw [h.2.2.2.2.1, hmo.2.2]
      omega
theorem zf_mk40 {post : Int32 → St2 → Prop} {s a b : Nat} {f : Int32} (hs : s < 6) (ha : a ≤ 6) (hb : b ≤ 6) (hab : a = 0 → b = 0)
    (HV : ∀ c rk n m : Nat, zf_vd a b c rk n m → f = nI c → ∀ b1 b2 b3 b4 b5 b6 b7 b8 b9 b18 : Nat → Int32, zf_st s rk n m c 0 0 0 b1 b2 b3 b4 b5 b6 b7 b8 b9 → post (nI rk) (g1, g2, g3, g4, b1, b2, b3, b4, b5, b6, b7, b8, b9, a10, a11, a12, a13, a14, a15, a16, a17, b18, a19, a20, a21, a22, a23, a24, a25, a26, a27, a28))
    (HB : ¬ (∃ c rk n m : Nat, zf_vd a b c rk n m ∧ f = nI c) → post (-1000000001) (g1, g2, g3, g4, a1, a2, a3, a4, a5, a6, a7, a8, a9, a10, a11, a12, a13, a14, a15, a16, a17, a18, a19, a20, a21, a22, a23, a24, a25, a26, a27, a28)) : wX_make_40 post (nI s) (nI a) (nI b) f g1 g2 g3 g4 a1 a2 a3 a4 a5 a6 a7 a8 a9 a10 a11 a12 a13 a14 a15 a16 a17 a18 a19 a20 a21 a22 a23 a24 a25 a26 a27 a28 := by
  unfold wX_make_40 wX_make_41
  refine pk_eq a 0 (fun z => ?_) (fun z => pk_eq b 0 (fun y => ?_) (fun y => ?_))
  · exact zf_mk60 (rk := 0) (n := 1) (m := 1) hs (by omega) HV HB
  · exact zf_mk60 (rk := 1) (n := a) (m := 1) hs (by omega) HV HB
  · exact zf_mk60 (rk := 2) (n := a) (m := b) hs (by omega) HV HB
theorem zf_mk36 {post : Int32 → St2 → Prop} {r n m f : Int32} (H : post (-1000000001) (g1, g2, g3, g4, a1, a2, a3, a4, a5, a6, a7, a8, a9, a10, a11, a12, a13, a14, a15, a16, a17, a18, a19, a20, a21, a22, a23, a24, a25, a26, a27, a28)) : wX_make_36 post r n m f g1 g2 g3 g4 a1 a2 a3 a4 a5 a6 a7 a8 a9 a10 a11 a12 a13 a14 a15 a16 a17 a18 a19 a20 a21 a22 a23 a24 a25 a26 a27 a28 := by
  unfold wX_make_36 wX_make_41
  exact br_c (fun _ => br_f (by decide) H) (fun _ => br_c (fun _ => br_f (by decide) H) (fun _ => br_f (by decide) H))
theorem zf_makeR {post : Int32 → St2 → Prop} {r n m f : Int32} (hr : r < 0 ∨ 5 < r) (H : post (-1000000001) (g1, g2, g3, g4, a1, a2, a3, a4, a5, a6, a7, a8, a9, a10, a11, a12, a13, a14, a15, a16, a17, a18, a19, a20, a21, a22, a23, a24, a25, a26, a27, a28)) : wpX_make post (g1, g2, g3, g4, a1, a2, a3, a4, a5, a6, a7, a8, a9, a10, a11, a12, a13, a14, a15, a16, a17, a18, a19, a20, a21, a22, a23, a24, a25, a26, a27, a28) r n m f := by
  unfold wpX_make
  dsimp only
  exact zf_reg1 hr (br_f (by decide) (zf_mk36 H))
theorem zf_make {post : Int32 → St2 → Prop} {s : Nat} {n m f : Int32} (hs : s < 6)
    (HV : ∀ a b c rk n' m' : Nat, zf_vd a b c rk n' m' → n = nI a → m = nI b → f = nI c → ∀ b1 b2 b3 b4 b5 b6 b7 b8 b9 b18 : Nat → Int32, zf_st s rk n' m' c 0 0 0 b1 b2 b3 b4 b5 b6 b7 b8 b9 → post (nI rk) (g1, g2, g3, g4, b1, b2, b3, b4, b5, b6, b7, b8, b9, a10, a11, a12, a13, a14, a15, a16, a17, b18, a19, a20, a21, a22, a23, a24, a25, a26, a27, a28))
    (HB : ¬ (∃ a b c rk n' m' : Nat, zf_vd a b c rk n' m' ∧ n = nI a ∧ m = nI b ∧ f = nI c) → post (-1000000001) (g1, g2, g3, g4, a1, a2, a3, a4, a5, a6, a7, a8, a9, a10, a11, a12, a13, a14, a15, a16, a17, a18, a19, a20, a21, a22, a23, a24, a25, a26, a27, a28)) : wpX_make post (g1, g2, g3, g4, a1, a2, a3, a4, a5, a6, a7, a8, a9, a10, a11, a12, a13, a14, a15, a16, a17, a18, a19, a20, a21, a22, a23, a24, a25, a26, a27, a28) (nI s) n m f := by
  have e6 : (6 : Int32) = nI 6 := rfl
  unfold wpX_make
  dsimp only
  refine zf_reg0 hs (br_t rfl (br_c (fun z => zf_mk36 (HB ?_)) (fun z => br_c (fun y => zf_mk36 (HB ?_)) (fun y => br_c (fun x => zf_mk36 (HB ?_)) (fun x => br_c (fun w => zf_mk36 (HB ?_)) (fun w => ?_))))))
  · rintro ⟨a, b, c, rk, n', m', hv, e1, e2, e3⟩
    unfold zf_vd at hv
    rw [e1] at z
    exact nI_pos (by omega) z
  · rintro ⟨a, b, c, rk, n', m', hv, e1, e2, e3⟩
    unfold zf_vd at hv
    rw [e1, e6] at y
    exact nI_nlt (by omega) (by omega) y
  · rintro ⟨a, b, c, rk, n', m', hv, e1, e2, e3⟩
    unfold zf_vd at hv
    rw [e2] at x
    exact nI_pos (by omega) x
  · rintro ⟨a, b, c, rk, n', m', hv, e1, e2, e3⟩
    unfold zf_vd at hv
    rw [e2, e6] at w
    exact nI_nlt (by omega) (by omega) w
  · obtain ⟨a, ha, e1⟩ := zf_of6 z y
    obtain ⟨b, hb, e2⟩ := zf_of6 x w
    subst e1 e2
    have HV' : ∀ c rk n' m' : Nat, zf_vd a b c rk n' m' → f = nI c → ∀ b1 b2 b3 b4 b5 b6 b7 b8 b9 b18 : Nat → Int32, zf_st s rk n' m' c 0 0 0 b1 b2 b3 b4 b5 b6 b7 b8 b9 → post (nI rk) (g1, g2, g3, g4, b1, b2, b3, b4, b5, b6, b7, b8, b9, a10, a11, a12, a13, a14, a15, a16, a17, b18, a19, a20, a21, a22, a23, a24, a25, a26, a27, a28) :=
      fun c rk n' m' hv e => HV a b c rk n' m' hv rfl rfl e
    have HB' : ¬ (∃ c rk n' m' : Nat, zf_vd a b c rk n' m' ∧ f = nI c) → post (-1000000001) (g1, g2, g3, g4, a1, a2, a3, a4, a5, a6, a7, a8, a9, a10, a11, a12, a13, a14, a15, a16, a17, a18, a19, a20, a21, a22, a23, a24, a25, a26, a27, a28) := by
      intro hn
      refine HB ?_
      rintro ⟨a', b', c, rk, n', m', hv, e1, e2, e3⟩
      have hv' := hv
      unfold zf_vd at hv'
      have q1 := (nI_eq (by omega) (by omega)).mp e1
      have q2 := (nI_eq (by omega) (by omega)).mp e2
      subst q1 q2
      exact hn ⟨c, rk, n', m', hv, e3⟩
    refine pk_eq a 0 (fun v => pk_le b 0 (fun u => ?_) (fun u => zf_mk36 (HB' ?_))) (fun v => ?_)
    · exact zf_mk40 hs ha hb (by omega) HV' HB'
    · rintro ⟨c, rk, n', m', hv, e3⟩
      unfold zf_vd at hv
      omega
    · exact zf_mk40 hs ha hb (by omega) HV' HB'
def zf_ok (rk : Nat) (p q : Int32) : Prop := (¬ p < -1 ∧ p ≤ 2) ∧ (¬ q < -1 ∧ q ≤ 2) ∧ (0 < rk ↔ ¬ p = -1) ∧ (rk = 2 ↔ ¬ q = -1) ∧ (rk = 2 → ¬ p = q)
theorem zf_badIx {post : Int32 → Prop} {p : Int32} (H0 : (¬ p < -1 ∧ p ≤ 2) → post 0) (H1 : ¬ (¬ p < -1 ∧ p ≤ 2) → post 1) : wpX_badIndex post (g1, g2, g3, g4, a1, a2, a3, a4, a5, a6, a7, a8, a9, a10, a11, a12, a13, a14, a15, a16, a17, a18, a19, a20, a21, a22, a23, a24, a25, a26, a27, a28) p := by
  unfold wpX_badIndex
  dsimp only
  exact br_c (fun z => H1 (fun h => h.1 z)) (fun z => br_c (fun y => H0 ⟨z, y⟩) (fun y => H1 (fun h => y h.2)))
theorem zf_ar103 {post : Int32 → St2 → Prop} {s rk n m f : Nat} {p q : Int32} {V : Nat → Nat → Int32} (hs : s < 6) (sh : zf_sh rk n m f) (h : zf_slot s rk n m f V a1 a2 a3 a4 a5 a6 a7 a8 a9) (H : ∀ u, post 1 u) : wX_array_103 post (nI s) p q 0 0 0 g4 a1 a2 a3 a4 a5 a6 a7 a8 a9 a10 a11 a12 a13 a14 a15 a16 a17 a18 a19 a20 a21 a22 a23 a24 a25 a26 a27 a28 := by
  unfold wX_array_103
  refine br_f (by decide) (br_f (by decide) (br_f (by decide) ?_))
  unfold wpX_copy
  dsimp only
  refine zf_unpack (by omega) sh h (fun c _ => ?_)
  dsimp only
  rw [zf_cl (s := s) (by omega), h.1.1, h.1.2.1, h.1.2.2.1, h.1.2.2.2]
  refine ⟨pk_in s 13 (by omega), pk_in s 13 (by omega), pk_in s 13 (by omega), pk_in s 13 (by omega), ?_⟩
  refine zf_pack (s := 6) (V := fun l p => c (zf_ix rk f l p)) (by omega) sh (fun l p => rfl) (fun b1 b2 b3 b4 b5 b6 b7 b8 b9 _ _ _ => ?_)
  refine ⟨pk_in 0 6 (by omega), nm_e ⟨pk_in 0 6 (by omega), nm_e ?_⟩⟩
  unfold wpX_part
  dsimp only
  exact ⟨pk_in 0 20 (by omega), nm_e ⟨pk_in 0 20 (by omega), nm_e ⟨pk_in 0 20 (by omega), nm_e ⟨pk_in 0 20 (by omega), nm_e (nm_e ⟨pk_in 0 6 (by omega), nm_e (nm_e (nm_r (e' := 1) rfl (H _)))⟩)⟩⟩⟩⟩
theorem zf_arrayR {post : Int32 → St2 → Prop} {r p q : Int32} (hr : r < 0 ∨ 5 < r) (H : post (-1000000001) (g1, g2, g3, g4, a1, a2, a3, a4, a5, a6, a7, a8, a9, a10, a11, a12, a13, a14, a15, a16, a17, a18, a19, a20, a21, a22, a23, a24, a25, a26, a27, a28)) : wpX_array post (g1, g2, g3, g4, a1, a2, a3, a4, a5, a6, a7, a8, a9, a10, a11, a12, a13, a14, a15, a16, a17, a18, a19, a20, a21, a22, a23, a24, a25, a26, a27, a28) r p q := by
  unfold wpX_array
  dsimp only
  exact zf_reg1 hr (br_f (by decide) H)
theorem zf_array {post : Int32 → St2 → Prop} {s rk n m f : Nat} {p q : Int32} {V : Nat → Nat → Int32} (hs : s < 6) (sh : zf_sh rk n m f) (h : zf_slot s rk n m f V a1 a2 a3 a4 a5 a6 a7 a8 a9) (HG : zf_ok rk p q → ∀ u, post 1 u) (HB : ¬ zf_ok rk p q → ∀ u, post (-1000000001) u) : wpX_array post (0, 0, 0, g4, a1, a2, a3, a4, a5, a6, a7, a8, a9, a10, a11, a12, a13, a14, a15, a16, a17, a18, a19, a20, a21, a22, a23, a24, a25, a26, a27, a28) (nI s) p q := by
  have hb := zf_shB sh
  unfold wpX_array
  dsimp only
  refine zf_reg0 hs (br_t rfl (zf_badIx (fun hp => br_t rfl (zf_badIx (fun hq => br_t rfl ?_) (fun z => br_f (by decide) (HB (fun w => z w.2.1) _)))) (fun z => br_f (by decide) (HB (fun w => z w.1) _))))
  have L87 : ∀ x5 : Int32, (rk = 2 ↔ x5 = 1) → (x5 = 0 ∨ x5 = 1) → (0 < rk ↔ ¬ p = -1) → (((q = -1 → wX_array_87 post (nI s) p q x5 0 x5 0 0 0 g4 a1 a2 a3 a4 a5 a6 a7 a8 a9 a10 a11 a12 a13 a14 a15 a16 a17 a18 a19 a20 a21 a22 a23 a24 a25 a26 a27 a28)) ∧ (¬ q = -1 → wX_array_87 post (nI s) p q x5 1 x5 0 0 0 g4 a1 a2 a3 a4 a5 a6 a7 a8 a9 a10 a11 a12 a13 a14 a15 a16 a17 a18 a19 a20 a21 a22 a23 a24 a25 a26 a27 a28)) := by
    intro x5 h5 h01 hf
    refine br_c (fun z => ?_) (fun z => ?_)
    · rcases h01 with e | e
      · subst e
        refine br_t rfl (br_t rfl (zf_ar103 hs sh h (HG ⟨hp, hq, hf, ?_, ?_⟩)))
        · exact ⟨fun y => absurd (h5.mp y) (by decide), fun y => absurd z y⟩
        · exact fun y => absurd (h5.mp y) (by decide)
      · subst e
        exact br_f (by decide) (HB (fun w => absurd z (w.2.2.2.1.mp (h5.mpr rfl))) _)
    · rcases h01 with e | e
      · subst e
        exact br_f (by decide) (HB (fun w => absurd (h5.mp (w.2.2.2.1.mpr z)) (by decide)) _)
      · subst e
        have h2 := h5.mpr rfl
        exact br_t rfl (br_f (by decide) (br_c (fun y => HB (fun w => w.2.2.2.2 h2 y) _) (fun y => zf_ar103 hs sh h (HG ⟨hp, hq, hf, ⟨fun _ => z, fun _ => h2⟩, fun _ => y⟩))))
  have L58 : ∀ x4 x5 : Int32, (rk = 2 ↔ x5 = 1) → (x5 = 0 ∨ x5 = 1) → (0 < rk ↔ x4 = 1) → (x4 = 0 ∨ x4 = 1) → wX_array_58 post (nI s) p q x4 x5 0 0 0 g4 a1 a2 a3 a4 a5 a6 a7 a8 a9 a10 a11 a12 a13 a14 a15 a16 a17 a18 a19 a20 a21 a22 a23 a24 a25 a26 a27 a28 := by
    intro x4 x5 h5 h501 h4 h401
    unfold wX_array_58 wX_array_72
    refine br_c (fun z => ?_) (fun z => ?_)
    · rcases h401 with e | e
      · subst e
        exact br_t rfl (L87 x5 h5 h501 ⟨fun y => absurd (h4.mp y) (by decide), fun y => absurd z y⟩)
      · subst e
        exact br_f (by decide) (HB (fun w => absurd z (w.2.2.1.mp (h4.mpr rfl))) _)
    · rcases h401 with e | e
      · subst e
        exact br_f (by decide) (HB (fun w => absurd (h4.mp (w.2.2.1.mpr z)) (by decide)) _)
      · subst e
        exact br_t rfl (L87 x5 h5 h501 ⟨fun _ => z, fun _ => h4.mpr rfl⟩)
  have L41 : ∀ x4 : Int32, (0 < rk ↔ x4 = 1) → (x4 = 0 ∨ x4 = 1) → wX_array_41 post (nI s) p q x4 0 0 0 g4 a1 a2 a3 a4 a5 a6 a7 a8 a9 a10 a11 a12 a13 a14 a15 a16 a17 a18 a19 a20 a21 a22 a23 a24 a25 a26 a27 a28 := by
    intro x4 h4 h401
    unfold wX_array_41
    rw [zf_cl (s := s) (by omega), h.1.1]
    exact ⟨pk_in s 13 (by omega), pk_eq rk 2 (fun z => L58 x4 1 ⟨fun _ => rfl, fun _ => z⟩ (Or.inr rfl) h4 h401) (fun z => L58 x4 0 ⟨fun y => absurd y z, fun y => absurd y (by decide)⟩ (Or.inl rfl) h4 h401)⟩
  rw [zf_cl (s := s) (by omega), h.1.1]
  exact ⟨pk_in s 13 (by omega), pk_le rk 0 (fun z => L41 0 ⟨fun y => absurd y (by omega), fun y => absurd y (by decide)⟩ (Or.inl rfl)) (fun z => L41 1 ⟨fun _ => rfl, fun _ => z⟩ (Or.inr rfl))⟩
end
end
section
/-! the law's own checks -/
theorem zf_bl {x y : Int32} {A B : Prop} (k : Int) (f : x.toInt < k → A) (g : k ≤ x.toInt → B) (hy : y.toInt = k := by rfl) : (x < y → A) ∧ (¬ x < y → B) := by
  rw [Int32.lt_iff_toInt_lt, hy]
  exact ⟨f, fun h => g (by omega)⟩
theorem zf_bg {x y : Int32} {A B : Prop} (k : Int) (f : k < x.toInt → A) (g : x.toInt ≤ k → B) (hy : y.toInt = k := by rfl) : (y < x → A) ∧ (¬ y < x → B) := by
  rw [Int32.lt_iff_toInt_lt, hy]
  exact ⟨f, fun h => g (by omega)⟩
theorem zf_ble {x y : Int32} {A B : Prop} (k : Int) (f : x.toInt ≤ k → A) (g : k < x.toInt → B) (hy : y.toInt = k := by rfl) : (x ≤ y → A) ∧ (¬ x ≤ y → B) := by
  rw [Int32.le_iff_toInt_le, hy]
  exact ⟨f, fun h => g (by omega)⟩
theorem zf_be {x y : Int32} {A B : Prop} (k : Int) (f : x.toInt = k → A) (g : ¬ x.toInt = k → B) (hy : y.toInt = k := by rfl) : (x = y → A) ∧ (¬ x = y → B) := by
  rw [← Int32.toInt_inj, hy]
  exact ⟨f, g⟩
theorem zf_bxy {x y : Int32} {A B : Prop} (f : x.toInt = y.toInt → A) (g : ¬ x.toInt = y.toInt → B) : (x = y → A) ∧ (¬ x = y → B) := by
  rw [← Int32.toInt_inj]
  exact ⟨f, g⟩
def zf_vI (N M F : Int) : Prop := (N = 0 ∧ M = 0 ∧ F = 0) ∨ (1 ≤ N ∧ N ≤ 6 ∧ M = 0 ∧ 0 ≤ F ∧ F ≤ 1) ∨ (1 ≤ N ∧ N ≤ 6 ∧ 1 ≤ M ∧ M ≤ 6 ∧ 0 ≤ F ∧ F ≤ 7)
theorem zf_okI {rk : Nat} {p q : Int32} : zf_ok rk p q ↔ ((-1 ≤ p.toInt ∧ p.toInt ≤ 2) ∧ (-1 ≤ q.toInt ∧ q.toInt ≤ 2) ∧ (0 < rk ↔ ¬ p.toInt = -1) ∧ (rk = 2 ↔ ¬ q.toInt = -1) ∧ (rk = 2 → ¬ p.toInt = q.toInt)) := by
  unfold zf_ok
  simp only [Int32.lt_iff_toInt_lt, Int32.le_iff_toInt_le, ← Int32.toInt_inj, show (-1 : Int32).toInt = -1 from rfl, show (2 : Int32).toInt = 2 from rfl, Int.not_lt]
theorem zf_p1 {x : Int32} (h1 : -1 ≤ (x - 1).toInt) (h2 : (x - 1).toInt ≤ 2) : x.toInt = (x - 1).toInt + 1 := by
  have e : x = (x - 1) + 1 := by grind
  have hc : (x - 1).toInt = -1 ∨ (x - 1).toInt = 0 ∨ (x - 1).toInt = 1 ∨ (x - 1).toInt = 2 := by omega
  generalize x - 1 = p at *
  have i0 : (-1 : Int32).toInt = -1 := rfl
  have i1 : (0 : Int32).toInt = 0 := rfl
  have i2 : (1 : Int32).toInt = 1 := rfl
  have i3 : (2 : Int32).toInt = 2 := rfl
  rcases hc with h | h | h | h
  · rw [← i0, Int32.toInt_inj] at h
    subst h; subst e; rfl
  · rw [← i1, Int32.toInt_inj] at h
    subst h; subst e; rfl
  · rw [← i2, Int32.toInt_inj] at h
    subst h; subst e; rfl
  · rw [← i3, Int32.toInt_inj] at h
    subst h; subst e; rfl
section
variable {post : Int32 → St0 → Prop} {mc ms kc ks : Nat} {x1 x2 x3 x4 x6 x7 x8 x9 x10 x11 x12 x13 x14 x15 x16 x17 x18 x19 x20 x21 x22 x23 z0 z1 : Int32}
theorem zf_l654 (h : z1 = z0) (H : post 1 ()) : wL_lawOf_654 post mc ms z0 z1 kc ks := br_t h H
theorem zf_l638 (h : z1 = z0) (e11 : x11 = if x23 = 0 then x12 else 1) (H : post 1 ()) : wL_lawOf_638 post mc ms x11 x12 x23 z0 z1 kc ks :=
  br_t h (br_c (fun z => zf_l654 (by rw [e11, if_pos z]) H) (fun z => zf_l654 (by rw [e11, if_neg z]) H))
theorem zf_l597 (h : z1 = z0) (e10 : x10 = if x13 = 0 then x12 else if x22 = 0 then x12 - 3 else if x20 = 0 then 0 else (1 : Int32) <<< ((x2 - 1) &&& 31)) (e11 : x11 = if x23 = 0 then x12 else 1) (H : post 1 ()) : wL_lawOf_597 post mc ms x2 x10 x11 x12 x13 x20 x22 x23 z0 z1 kc ks :=
  br_t h (br_c (fun a => zf_l638 (by rw [e10, if_pos a]) e11 H) (fun a => br_c (fun b => zf_l638 (by rw [e10, if_neg a, if_pos b]) e11 H) (fun b => br_c (fun c => zf_l638 (by rw [e10, if_neg a, if_neg b, if_pos c]) e11 H) (fun c => zf_l638 (by rw [e10, if_neg a, if_neg b, if_neg c]) e11 H))))
theorem zf_l580 (h : z1 = z0) (e9 : x9 = if x13 = 0 then x12 else x21) (e10 : x10 = if x13 = 0 then x12 else if x22 = 0 then x12 - 3 else if x20 = 0 then 0 else (1 : Int32) <<< ((x2 - 1) &&& 31)) (e11 : x11 = if x23 = 0 then x12 else 1) (H : post 1 ()) : wL_lawOf_580 post mc ms x2 x9 x10 x11 x12 x13 x20 x21 x22 x23 z0 z1 kc ks :=
  br_t h (br_c (fun a => zf_l597 (by rw [e9, if_pos a]) e10 e11 H) (fun a => zf_l597 (by rw [e9, if_neg a]) e10 e11 H))
theorem zf_l551 (h : z1 = z0) (e8 : x8 = if x13 = 0 then x12 else if x17 = 0 then x12 - 3 else x4) (e9 : x9 = if x13 = 0 then x12 else x21) (e10 : x10 = if x13 = 0 then x12 else if x22 = 0 then x12 - 3 else if x20 = 0 then 0 else (1 : Int32) <<< ((x2 - 1) &&& 31)) (e11 : x11 = if x23 = 0 then x12 else 1) (H : post 1 ()) : wL_lawOf_551 post mc ms x2 x4 x8 x9 x10 x11 x12 x13 x17 x20 x21 x22 x23 z0 z1 kc ks :=
  br_t h (br_c (fun a => zf_l580 (by rw [e8, if_pos a]) e9 e10 e11 H) (fun a => br_c (fun b => zf_l580 (by rw [e8, if_neg a, if_pos b]) e9 e10 e11 H) (fun b => zf_l580 (by rw [e8, if_neg a, if_neg b]) e9 e10 e11 H)))
theorem zf_l523 (h : z1 = z0) (e7 : x7 = if x13 = 0 then x12 else if x17 = 0 then x12 - 3 else 0) (e8 : x8 = if x13 = 0 then x12 else if x17 = 0 then x12 - 3 else x4) (e9 : x9 = if x13 = 0 then x12 else x21) (e10 : x10 = if x13 = 0 then x12 else if x22 = 0 then x12 - 3 else if x20 = 0 then 0 else (1 : Int32) <<< ((x2 - 1) &&& 31)) (e11 : x11 = if x23 = 0 then x12 else 1) (H : post 1 ()) : wL_lawOf_523 post mc ms x2 x4 x7 x8 x9 x10 x11 x12 x13 x17 x20 x21 x22 x23 z0 z1 kc ks :=
  br_t h (br_c (fun a => zf_l551 (by rw [e7, if_pos a]) e8 e9 e10 e11 H) (fun a => br_c (fun b => zf_l551 (by rw [e7, if_neg a, if_pos b]) e8 e9 e10 e11 H) (fun b => zf_l551 (by rw [e7, if_neg a, if_neg b]) e8 e9 e10 e11 H)))
theorem zf_l507 (e6 : x6 = if x15 = 0 then x12 else x16) (e7 : x7 = if x13 = 0 then x12 else if x17 = 0 then x12 - 3 else 0) (e8 : x8 = if x13 = 0 then x12 else if x17 = 0 then x12 - 3 else x4) (e9 : x9 = if x13 = 0 then x12 else x21) (e10 : x10 = if x13 = 0 then x12 else if x22 = 0 then x12 - 3 else if x20 = 0 then 0 else (1 : Int32) <<< ((x2 - 1) &&& 31)) (e11 : x11 = if z0 = 0 then x12 else 1) (H : post 1 ()) : wL_lawOf_507 post mc ms x2 x4 x6 x7 x8 x9 x10 x11 x12 x13 x15 x16 x17 x20 x21 x22 z0 kc ks :=
  br_c (fun a => zf_l523 (by rw [e6, if_pos a]) e7 e8 e9 e10 e11 H) (fun a => zf_l523 (by rw [e6, if_neg a]) e7 e8 e9 e10 e11 H)
theorem zf_l413 {rk : Nat} (hr : rk ≤ 2) (h13 : ¬ x13 = 0) (HG : zf_ok rk (x2 - 1) (x1 - 1) → wL_lawOf_507 post mc ms x2 x4 x6 x7 x8 x9 x10 x11 x12 x13 x15 (nI rk) x17 x20 x21 z0 1 kc ks) (HB : ¬ zf_ok rk (x2 - 1) (x1 - 1) → wL_lawOf_507 post mc ms x2 x4 x6 x7 x8 x9 x10 x11 x12 x13 x15 (nI rk) x17 x20 x21 z0 0 kc ks) : wL_lawOf_413 post mc ms x1 x2 x4 x6 x7 x8 x9 x10 x11 x12 x13 x15 (nI rk) x17 x20 x21 z0 kc ks := by
  rw [zf_okI] at HG HB
  refine br_f h13 (zf_bl (-1) (fun a => HB (by omega)) (fun a => zf_bg 2 (fun b => HB (by omega)) (fun b => zf_bl (-1) (fun c => HB (by omega)) (fun c => zf_bg 2 (fun d => HB (by omega)) (fun d => ?_)))))
  have M := zf_p1 a b
  have N := zf_p1 c d
  refine pk_le rk 0 (fun e => zf_ble 0 (fun f => br_t rfl (pk_le rk 1 (fun g => ?_) (fun g => absurd g (by omega)))) (fun f => br_f (by decide) (HB (by omega)))) (fun e => zf_ble 0 (fun f => br_f (by decide) (HB (by omega))) (fun f => br_t rfl (pk_le rk 1 (fun g => ?_) (fun g => ?_))))
  · exact zf_ble 0 (fun h => br_t rfl (zf_bxy (fun i => zf_be 0 (fun j => HG (by omega)) (fun j => HB (by omega))) (fun i => HG (by omega)))) (fun h => br_f (by decide) (HB (by omega)))
  · exact zf_ble 0 (fun h => br_t rfl (zf_bxy (fun i => zf_be 0 (fun j => HG (by omega)) (fun j => HB (by omega))) (fun i => HG (by omega)))) (fun h => br_f (by decide) (HB (by omega)))
  · exact zf_ble 0 (fun h => br_f (by decide) (HB (by omega))) (fun h => br_t rfl (zf_bxy (fun i => zf_be 0 (fun j => HG (by omega)) (fun j => HB (by omega))) (fun i => HG (by omega))))
theorem zf_fin {rk : Nat} (hr : rk ≤ 2) (h13 : ¬ x13 = 0) (e6 : x6 = if x15 = 0 then x12 else nI rk) (e7 : x7 = if x17 = 0 then x12 - 3 else 0) (e8 : x8 = if x17 = 0 then x12 - 3 else x4) (e9 : x9 = z0)
    (e10a : (rk = 0 → x1 = 1) → x10 = if x20 = 0 then 0 else (1 : Int32) <<< ((x2 - 1) &&& 31)) (e10b : rk = 0 → ¬ x1 = 1 → x10 = x12 - 3) (e11g : zf_ok rk (x2 - 1) (x1 - 1) → x11 = 1) (e11b : ¬ zf_ok rk (x2 - 1) (x1 - 1) → x11 = x12) (H : post 1 ()) : wL_lawOf_392 post mc ms x1 x2 x4 x6 x7 x8 x9 x10 x11 x12 x13 x15 (nI rk) x17 x20 z0 kc ks := by
  have k1 : (rk = 0 → x1 = 1) → wL_lawOf_413 post mc ms x1 x2 x4 x6 x7 x8 x9 x10 x11 x12 x13 x15 (nI rk) x17 x20 z0 1 kc ks := by
    intro hrow
    have g10 := e10a hrow
    exact zf_l413 hr h13
      (fun g => zf_l507 e6 (by rw [e7, if_neg h13]) (by rw [e8, if_neg h13]) (by rw [e9, if_neg h13]) (by rw [g10, if_neg h13, if_neg (show ¬ (1 : Int32) = 0 by decide)]) (by rw [e11g g, if_neg (by decide)]) H)
      (fun g => zf_l507 e6 (by rw [e7, if_neg h13]) (by rw [e8, if_neg h13]) (by rw [e9, if_neg h13]) (by rw [g10, if_neg h13, if_neg (show ¬ (1 : Int32) = 0 by decide)]) (by rw [e11b g, if_pos rfl]) H)
  refine pk_eq rk 0 (fun a => br_c (fun b => k1 (fun _ => b)) (fun b => ?_)) (fun a => k1 (fun c => absurd c a))
  have g10 := e10b a b
  exact zf_l413 hr h13
      (fun g => zf_l507 e6 (by rw [e7, if_neg h13]) (by rw [e8, if_neg h13]) (by rw [e9, if_neg h13]) (by rw [g10, if_neg h13, if_pos rfl]) (by rw [e11g g, if_neg (by decide)]) H)
      (fun g => zf_l507 e6 (by rw [e7, if_neg h13]) (by rw [e8, if_neg h13]) (by rw [e9, if_neg h13]) (by rw [g10, if_neg h13, if_pos rfl]) (by rw [e11b g, if_pos rfl]) H)
/-- no such register -/
theorem zf_lawA (e6 : x6 = x12) (e7 : x7 = x12) (e8 : x8 = x12) (e9 : x9 = x12) (e10 : x10 = x12) (e11 : x11 = x12) (H : post 1 ()) : wL_lawOf_220 post mc ms x1 x2 x3 x4 x6 x7 x8 x9 x10 x11 x12 0 0 0 kc ks := by
  have k1 : ∀ x17 x20 x21 x22 : Int32, wL_lawOf_507 post mc ms x2 x4 x6 x7 x8 x9 x10 x11 x12 0 0 0 x17 x20 x21 x22 0 kc ks := fun x17 x20 x21 x22 => zf_l507 (by rw [e6, if_pos rfl]) (by rw [e7, if_pos rfl]) (by rw [e8, if_pos rfl]) (by rw [e9, if_pos rfl]) (by rw [e10, if_pos rfl]) (by rw [e11, if_pos rfl]) H
  have k2 : ∀ x17 x18 x20 : Int32, wL_lawOf_340 post mc ms x1 x2 x4 x6 x7 x8 x9 x10 x11 x12 0 0 0 x17 x18 x20 kc ks := fun x17 x18 x20 => br_t rfl (br_c (fun _ => br_t rfl (k1 _ _ _ _)) (fun _ => br_t rfl (k1 _ _ _ _)))
  have k3 : ∀ x18 x19 : Int32, wL_lawOf_307 post mc ms x1 x2 x3 x4 x6 x7 x8 x9 x10 x11 x12 0 0 0 0 x18 x19 kc ks := fun x18 x19 => br_f (by decide) (br_f (by decide) (k2 _ _ _))
  exact br_t rfl (br_f (by decide) (br_f (by decide) (br_c (fun _ => br_t rfl (k3 _ _)) (fun _ => br_t rfl (k3 _ _)))))
/-- rank 0 -/
theorem zf_law0 (h13 : ¬ x13 = 0) (e6 : x6 = if x15 = 0 then x12 else 0) (hin : x1 = 1 → x2 = 1 → x7 = 0 ∧ x8 = x4) (hout : ¬ (x1 = 1 ∧ x2 = 1) → x7 = x12 - 3 ∧ x8 = x12 - 3) (e9 : x9 = 1)
    (p0 : ¬ x1 = 1 → x10 = x12 - 3) (p1 : x1 = 1 → x2 = 1 → x10 = if x4 = 0 then 0 else (1 : Int32) <<< ((x2 - 1) &&& 31)) (p2 : x1 = 1 → ¬ x2 = 1 → x10 = 0) (e11g : zf_ok 0 (x2 - 1) (x1 - 1) → x11 = 1) (e11b : ¬ zf_ok 0 (x2 - 1) (x1 - 1) → x11 = x12) (H : post 1 ()) : wL_lawOf_220 post mc ms x1 x2 x3 x4 x6 x7 x8 x9 x10 x11 x12 x13 x15 0 kc ks := by
  have k0 : ¬ (x1 = 1 ∧ x2 = 1) → ∀ x18 x19 : Int32, x18 = 1 → wL_lawOf_307 post mc ms x1 x2 x3 x4 x6 x7 x8 x9 x10 x11 x12 x13 x15 0 0 x18 x19 kc ks := by
    intro hn x18 x19 e18
    have g := hout hn
    subst e18
    exact br_f (by decide) (br_f (by decide) (zf_fin (rk := 0) (by omega) h13 e6 (by rw [g.1, if_pos rfl]) (by rw [g.2, if_pos rfl]) e9 (fun w => by rw [p2 (w rfl) (fun y => hn ⟨w rfl, y⟩), if_pos rfl]) (fun _ y => p0 y) e11g e11b H))
  have k1 : x1 = 1 → x2 = 1 → ∀ x20 : Int32, (x20 = if x4 = 0 then 0 else 1) → ∀ x18 x19 : Int32, x18 = 1 → wL_lawOf_308 post mc ms x1 x2 x3 x4 x6 x7 x8 x9 x10 x11 x12 x13 x15 0 1 x18 x19 x20 kc ks := by
    intro h1 h2 x20 e20 x18 x19 e18
    have g := hin h1 h2
    subst e18
    refine br_f (by decide) (br_f (by decide) (zf_fin (rk := 0) (by omega) h13 e6 (by rw [g.1, if_neg (by decide)]) (by rw [g.2, if_neg (by decide)]) e9 (fun w => ?_) (fun _ y => absurd h1 y) e11g e11b H))
    rw [p1 h1 h2, e20]
    by_cases h4 : x4 = 0
    · rw [if_pos h4, if_pos h4, if_pos rfl]
    · rw [if_neg h4, if_neg h4, if_neg (by decide)]
  have k2 : x1 = 1 → x2 = 1 → ∀ x18 z0 : Int32, x18 = 1 → wL_lawOf_291 post mc ms x1 x2 x3 x4 x6 x7 x8 x9 x10 x11 x12 x13 x15 0 1 x18 z0 kc ks := fun h1 h2 x18 z0 e18 => br_f (by decide) (br_c (fun a => k1 h1 h2 0 (by rw [if_pos a]) _ _ e18) (fun a => k1 h1 h2 1 (by rw [if_neg a]) _ _ e18))
  have k3 : ¬ (x1 = 1 ∧ x2 = 1) → wL_lawOf_253 post mc ms x1 x2 x3 x4 x6 x7 x8 x9 x10 x11 x12 x13 x15 0 kc ks := fun hn => br_f (by decide) (br_f (by decide) (br_c (fun _ => br_t rfl (k0 hn _ _ rfl)) (fun _ => br_t rfl (k0 hn _ _ rfl))))
  refine br_f h13 (br_f (by decide) (br_f (by decide) (br_c (fun h1 => br_c (fun h2 => ?_) (fun h2 => k3 (fun w => h2 w.2))) (fun h1 => k3 (fun w => h1 w.1)))))
  exact br_f (by decide) (br_f (by decide) (br_c (fun _ => k2 h1 h2 _ _ rfl) (fun _ => k2 h1 h2 _ _ rfl)))
/-- rank 1 -/
theorem zf_law1 {a c : Nat} (h13 : ¬ x13 = 0) (h15 : ¬ x15 = 0) (hc : c ≤ 1) (e1 : x1 = nI a) (e2 : x2 = 0) (e3 : x3 = nI c) (e6 : x6 = 1) (e7 : x7 = x12 - 3) (e8 : x8 = x12 - 3) (e9 : x9 = nI (if c = 1 then 0 else a)) (e10 : x10 = 0)
    (e11g : zf_ok 1 (x2 - 1) (x1 - 1) → x11 = 1) (e11b : ¬ zf_ok 1 (x2 - 1) (x1 - 1) → x11 = x12) (H : post 1 ()) : wL_lawOf_220 post mc ms x1 x2 x3 x4 x6 x7 x8 x9 x10 x11 x12 x13 x15 1 kc ks := by
  have k0 : ∀ z0 : Int32, x9 = z0 → wL_lawOf_392 post mc ms x1 x2 x4 x6 x7 x8 x9 x10 x11 x12 x13 x15 1 0 0 z0 kc ks := fun z0 e9' => zf_fin (rk := 1) (by omega) h13 (by rw [e6, if_neg h15]; rfl) (by rw [e7, if_pos rfl]) (by rw [e8, if_pos rfl]) e9' (fun w => by rw [e10, if_pos rfl]) (fun w => absurd w (by omega)) e11g e11b H
  have k1 : ∀ x19 : Int32, wL_lawOf_307 post mc ms x1 x2 x3 x4 x6 x7 x8 x9 x10 x11 x12 x13 x15 1 0 x1 x19 kc ks := by
    intro x19
    refine br_f (by decide) (br_t rfl ?_)
    rw [e3]
    refine pk_eq c 1 (fun w => br_t rfl (k0 _ ?_)) (fun w => k0 _ ?_)
    · rw [e9, if_pos w]; rfl
    · rw [e9, if_neg w, e1]
  have k2 : wL_lawOf_253 post mc ms x1 x2 x3 x4 x6 x7 x8 x9 x10 x11 x12 x13 x15 1 kc ks := br_f (by decide) (br_t rfl (br_c (fun _ => br_t rfl (k1 _)) (fun _ => br_t rfl (k1 _))))
  refine br_f h13 (br_f (by decide) (br_f (by decide) (br_c (fun _ => br_f (by rw [e2]; decide) k2) (fun _ => k2))))
theorem zf_l308 {c : Nat} (hc : c ≤ 7) (e3 : x3 = nI c) (K : wL_lawOf_392 post mc ms x1 x2 x4 x6 x7 x8 x9 x10 x11 x12 x13 x15 2 x17 z0 (if c % 2 = 1 then (if z0 = 0 then 0 else 1) else if c = 2 ∨ c = 6 then (if z0 = 0 then 0 else x19) else x18) kc ks) : wL_lawOf_308 post mc ms x1 x2 x3 x4 x6 x7 x8 x9 x10 x11 x12 x13 x15 2 x17 x18 x19 z0 kc ks := by
  refine br_t (by decide) ⟨by decide, ?_⟩
  rw [e3]
  refine pk_eq (c % 2) 1 (fun a => ?_) (fun a => ?_) (pk_rem (d := 2) (by omega) (by omega) (by omega))
  · rw [if_pos a] at K
    refine br_c (fun b => ?_) (fun b => ?_)
    · rw [if_pos b] at K
      exact K
    · rw [if_neg b] at K
      exact K
  · rw [if_neg a] at K
    have k1 : (c = 2 ∨ c = 6) → wL_lawOf_376 post mc ms x1 x2 x4 x6 x7 x8 x9 x10 x11 x12 x13 x15 2 x17 x19 z0 kc ks := by
      intro h
      rw [if_pos h] at K
      refine br_c (fun b => ?_) (fun b => ?_)
      · rw [if_pos b] at K
        exact K
      · rw [if_neg b] at K
        exact K
    refine pk_eq c 2 (fun b => k1 (Or.inl b)) (fun b => pk_eq c 6 (fun d => k1 (Or.inr d)) (fun d => ?_))
    rw [if_neg (by omega)] at K
    exact K
/-- rank 2 -/
theorem zf_law2 {a b c : Nat} (h13 : ¬ x13 = 0) (h15 : ¬ x15 = 0) (hc : c ≤ 7) (e1 : x1 = nI a) (e2 : x2 = nI b) (e3 : x3 = nI c) (e6 : x6 = 2) (e7 : x7 = 0) (e8 : x8 = x4)
    (e9 : x9 = nI (if c % 2 = 1 then (if x4 = 0 then 0 else 1) else if c = 2 ∨ c = 6 then (if x4 = 0 then 0 else if c ≤ 3 then b else a) else a * b)) (e10 : x10 = if x4 = 0 then 0 else (1 : Int32) <<< ((x2 - 1) &&& 31))
    (e11g : zf_ok 2 (x2 - 1) (x1 - 1) → x11 = 1) (e11b : ¬ zf_ok 2 (x2 - 1) (x1 - 1) → x11 = x12) (H : post 1 ()) : wL_lawOf_220 post mc ms x1 x2 x3 x4 x6 x7 x8 x9 x10 x11 x12 x13 x15 2 kc ks := by
  have k0 : ∀ x20 z0 : Int32, (x20 = if x4 = 0 then 0 else 1) → x9 = z0 → wL_lawOf_392 post mc ms x1 x2 x4 x6 x7 x8 x9 x10 x11 x12 x13 x15 2 1 x20 z0 kc ks := by
    intro x20 z0 e20 e9'
    refine zf_fin (rk := 2) (by omega) h13 (by rw [e6, if_neg h15]; rfl) (by rw [e7, if_neg (by decide)]) (by rw [e8, if_neg (by decide)]) e9' (fun w => ?_) (fun w => absurd w (by omega)) e11g e11b H
    rw [e10, e20]
    by_cases h4 : x4 = 0
    · rw [if_pos h4, if_pos h4, if_pos rfl]
    · rw [if_neg h4, if_neg h4, if_neg (by decide)]
  have k1 : ∀ x18 x19 z0 : Int32, x18 = x1 * x2 → x19 = (if c ≤ 3 then x2 else x1) → (z0 = if x4 = 0 then 0 else 1) → wL_lawOf_308 post mc ms x1 x2 x3 x4 x6 x7 x8 x9 x10 x11 x12 x13 x15 2 1 x18 x19 z0 kc ks := by
    intro x18 x19 z0 e18 e19 e20
    refine zf_l308 hc e3 (k0 _ _ e20 ?_)
    rw [e9, e18, e19, e1, e2, pk_mul]
    by_cases h4 : x4 = 0
    · rw [if_pos h4] at e20
      rw [e20, if_pos h4, if_pos h4, if_pos rfl, if_pos rfl]
      split
      · rfl
      · split <;> rfl
    · rw [if_neg h4] at e20
      rw [e20, if_neg h4, if_neg h4, if_neg (show ¬ (1 : Int32) = 0 by decide), if_neg (show ¬ (1 : Int32) = 0 by decide)]
      split
      · rfl
      · split
        · split <;> rfl
        · rfl
  have k2 : ∀ x18 z0 : Int32, x18 = x1 * x2 → z0 = (if c ≤ 3 then x2 else x1) → wL_lawOf_291 post mc ms x1 x2 x3 x4 x6 x7 x8 x9 x10 x11 x12 x13 x15 2 1 x18 z0 kc ks := fun x18 z0 e18 e19 => br_f (by decide) (br_c (fun h => k1 _ _ _ e18 e19 (by rw [if_pos h])) (fun h => k1 _ _ _ e18 e19 (by rw [if_neg h])))
  refine br_f h13 (br_t rfl (br_t rfl ?_))
  exact pk_le c 3 (fun h => k2 _ _ rfl (by rw [if_pos h])) (fun h => k2 _ _ rfl (by rw [if_neg (by omega)])) e3
theorem zf_l206 (h : wL_lawOf_220 post mc ms x1 x2 x3 x4 x6 x7 x8 x9 x10 x11 x12 x13 0 0 kc ks) : wL_lawOf_206 post mc ms x1 x2 x3 x4 x6 x7 x8 x9 x10 x11 x12 x13 x14 kc ks := br_t rfl h
theorem zf_l207 (h : wL_lawOf_220 post mc ms x1 x2 x3 x4 x6 x7 x8 x9 x10 x11 x12 x13 1 x14 kc ks) : wL_lawOf_207 post mc ms x1 x2 x3 x4 x6 x7 x8 x9 x10 x11 x12 x13 x14 1 kc ks := br_f (by decide) h
theorem zf_l160 (h : wL_lawOf_220 post mc ms x1 x2 x3 x4 x6 x7 x8 x9 x10 x11 x12 x13 0 0 kc ks) : wL_lawOf_160 post mc ms x1 x2 x3 x4 x6 x7 x8 x9 x10 x11 x12 x13 kc ks := br_c (fun _ => zf_l206 h) (fun _ => br_t (by decide) (zf_l206 h))
theorem zf_l161_0 (H1 : ¬ x13 = 0 → 0 ≤ x3.toInt → x3.toInt ≤ 0 → wL_lawOf_220 post mc ms x1 x2 x3 x4 x6 x7 x8 x9 x10 x11 x12 x13 1 0 kc ks) (HN : (x13 = 0 ∨ x3.toInt < 0 ∨ 0 < x3.toInt) → wL_lawOf_220 post mc ms x1 x2 x3 x4 x6 x7 x8 x9 x10 x11 x12 x13 0 0 kc ks) : wL_lawOf_161 post mc ms x1 x2 x3 x4 x6 x7 x8 x9 x10 x11 x12 x13 0 kc ks :=
  br_c (fun a => zf_l206 (HN (Or.inl a))) (fun a => br_f (by decide) (zf_bl 0 (fun b => zf_l206 (HN (Or.inr (Or.inl b)))) (fun b => br_t rfl (zf_bg 0 (fun c => zf_l206 (HN (Or.inr (Or.inr c)))) (fun c => zf_l207 (H1 a b c))))))
theorem zf_l161_1 (H1 : ¬ x13 = 0 → 0 ≤ x3.toInt → x3.toInt ≤ 1 → wL_lawOf_220 post mc ms x1 x2 x3 x4 x6 x7 x8 x9 x10 x11 x12 x13 1 1 kc ks) (HN : (x13 = 0 ∨ x3.toInt < 0 ∨ 1 < x3.toInt) → wL_lawOf_220 post mc ms x1 x2 x3 x4 x6 x7 x8 x9 x10 x11 x12 x13 0 0 kc ks) : wL_lawOf_161 post mc ms x1 x2 x3 x4 x6 x7 x8 x9 x10 x11 x12 x13 1 kc ks :=
  br_c (fun a => zf_l206 (HN (Or.inl a))) (fun a => br_f (by decide) (zf_bl 0 (fun b => zf_l206 (HN (Or.inr (Or.inl b)))) (fun b => br_f (by decide) (br_t rfl (zf_bg 1 (fun c => zf_l206 (HN (Or.inr (Or.inr c)))) (fun c => zf_l207 (H1 a b c)))))))
theorem zf_l161_2 (H1 : ¬ x13 = 0 → 0 ≤ x3.toInt → x3.toInt ≤ 7 → wL_lawOf_220 post mc ms x1 x2 x3 x4 x6 x7 x8 x9 x10 x11 x12 x13 1 2 kc ks) (HN : (x13 = 0 ∨ x3.toInt < 0 ∨ 7 < x3.toInt) → wL_lawOf_220 post mc ms x1 x2 x3 x4 x6 x7 x8 x9 x10 x11 x12 x13 0 0 kc ks) : wL_lawOf_161 post mc ms x1 x2 x3 x4 x6 x7 x8 x9 x10 x11 x12 x13 2 kc ks :=
  br_c (fun a => zf_l206 (HN (Or.inl a))) (fun a => br_f (by decide) (zf_bl 0 (fun b => zf_l206 (HN (Or.inr (Or.inl b)))) (fun b => br_f (by decide) (br_f (by decide) (zf_bg 7 (fun c => zf_l206 (HN (Or.inr (Or.inr c)))) (fun c => zf_l207 (H1 a b c)))))))
theorem zf_l134 (H2 : ¬ x13 = 0 → 1 ≤ x1.toInt → x1.toInt ≤ 6 → 1 ≤ x2.toInt → x2.toInt ≤ 6 → 0 ≤ x3.toInt → x3.toInt ≤ 7 → wL_lawOf_220 post mc ms x1 x2 x3 x4 x6 x7 x8 x9 x10 x11 x12 x13 1 2 kc ks)
    (HN : (¬ x13 = 0 → ¬ (1 ≤ x1.toInt ∧ x1.toInt ≤ 6 ∧ 1 ≤ x2.toInt ∧ x2.toInt ≤ 6 ∧ 0 ≤ x3.toInt ∧ x3.toInt ≤ 7)) → wL_lawOf_220 post mc ms x1 x2 x3 x4 x6 x7 x8 x9 x10 x11 x12 x13 0 0 kc ks) : wL_lawOf_134 post mc ms x1 x2 x3 x4 x6 x7 x8 x9 x10 x11 x12 x13 kc ks :=
  zf_bl 1 (fun a => zf_l160 (HN (fun _ => by omega))) (fun a => zf_bg 6 (fun b => zf_l160 (HN (fun _ => by omega))) (fun b => zf_bl 1 (fun c => zf_l160 (HN (fun _ => by omega))) (fun c => zf_bg 6 (fun d => zf_l160 (HN (fun _ => by omega))) (fun d => zf_l161_2 (fun h f g => H2 h a b c d f g) (fun e => HN (fun h w => e.elim h (fun q => by omega)))))))
theorem zf_l115 (H2 : ¬ x13 = 0 → 1 ≤ x1.toInt → x1.toInt ≤ 6 → 1 ≤ x2.toInt → x2.toInt ≤ 6 → 0 ≤ x3.toInt → x3.toInt ≤ 7 → wL_lawOf_220 post mc ms x1 x2 x3 x4 x6 x7 x8 x9 x10 x11 x12 x13 1 2 kc ks)
    (H1 : ¬ x13 = 0 → 1 ≤ x1.toInt → x1.toInt ≤ 6 → x2.toInt = 0 → 0 ≤ x3.toInt → x3.toInt ≤ 1 → wL_lawOf_220 post mc ms x1 x2 x3 x4 x6 x7 x8 x9 x10 x11 x12 x13 1 1 kc ks)
    (hne : ¬ (x1.toInt = 0 ∧ x2.toInt = 0)) (HN : (¬ x13 = 0 → ¬ zf_vI x1.toInt x2.toInt x3.toInt) → wL_lawOf_220 post mc ms x1 x2 x3 x4 x6 x7 x8 x9 x10 x11 x12 x13 0 0 kc ks) : wL_lawOf_115 post mc ms x1 x2 x3 x4 x6 x7 x8 x9 x10 x11 x12 x13 kc ks := by
  unfold zf_vI at HN
  exact zf_bl 1 (fun a => zf_l134 H2 (fun h => HN (fun h13 w => h h13 (by omega)))) (fun a => zf_bg 6 (fun b => zf_l134 H2 (fun h => HN (fun h13 w => h h13 (by omega)))) (fun b => zf_be 0 (fun c => zf_l161_1 (fun h f g => H1 h a b c f g) (fun e => HN (fun h w => e.elim h (fun q => by omega)))) (fun c => zf_l134 H2 (fun h => HN (fun h13 w => h h13 (by omega))))))
theorem zf_l101 (H2 : ¬ z0 = 0 → 1 ≤ x1.toInt → x1.toInt ≤ 6 → 1 ≤ x2.toInt → x2.toInt ≤ 6 → 0 ≤ x3.toInt → x3.toInt ≤ 7 → wL_lawOf_220 post mc ms x1 x2 x3 x4 x6 x7 x8 x9 x10 x11 x12 z0 1 2 kc ks)
    (H1 : ¬ z0 = 0 → 1 ≤ x1.toInt → x1.toInt ≤ 6 → x2.toInt = 0 → 0 ≤ x3.toInt → x3.toInt ≤ 1 → wL_lawOf_220 post mc ms x1 x2 x3 x4 x6 x7 x8 x9 x10 x11 x12 z0 1 1 kc ks)
    (H0 : ¬ z0 = 0 → x1.toInt = 0 → x2.toInt = 0 → x3.toInt = 0 → wL_lawOf_220 post mc ms x1 x2 x3 x4 x6 x7 x8 x9 x10 x11 x12 z0 1 0 kc ks)
    (HN : (¬ z0 = 0 → ¬ zf_vI x1.toInt x2.toInt x3.toInt) → wL_lawOf_220 post mc ms x1 x2 x3 x4 x6 x7 x8 x9 x10 x11 x12 z0 0 0 kc ks) : wL_lawOf_101 post mc ms x1 x2 x3 x4 x6 x7 x8 x9 x10 x11 x12 z0 kc ks := by
  refine zf_be 0 (fun a => zf_be 0 (fun b => zf_l161_0 (fun h f g => H0 h a b (by omega)) (fun e => HN (fun h w => ?_))) (fun b => zf_l115 H2 H1 (fun w => b w.2) HN)) (fun a => zf_l115 H2 H1 (fun w => a w.1) HN)
  unfold zf_vI at w
  exact e.elim h (fun q => by omega)
end
end
section
/-! what a slot with at most one number answers -/
def zf_rm (rk n m f : Nat) (h : Bool) : Nat := if zf_sp rk f = true then (if h = true then 1 else 0) else if zf_sl rk f = true then (if h = true then zf_W rk n m f else 0) else zf_C rk n m f * zf_W rk n m f
theorem zf_offV {C W l0 p0 : Nat} {sl sp : Bool} {V : Nat → Nat → Int32} {y : Int32} (hl : l0 < C) (hp : p0 < W) (hV : ∀ l, l < C → ∀ p, p < W → V l p = if l = l0 ∧ p = p0 then y else 0) :
    zf_off (zf_k sl W V) (zf_w sp W V) C = if sp = true then (if decide (¬ y = 0) = true then 1 else 0) else if sl = true then (if decide (¬ y = 0) = true then W else 0) else C * W := by
  have hZ : ∀ l, l < C → (l ≠ l0 ∨ y = 0) → ∀ p, p < W → V l p = 0 := by
    intro l h1 h2 p h3
    rw [hV l h1 p h3]
    by_cases e : l = l0 ∧ p = p0
    · rw [if_pos e]
      rcases h2 with h2 | h2
      · exact absurd e.1 h2
      · exact h2
    · rw [if_neg e]
  have hY : V l0 p0 = y := by rw [hV l0 hl p0 hp, if_pos ⟨rfl, rfl⟩]
  have wT : ∀ l, l < C → (l ≠ l0 ∨ y = 0) → zf_w true W V l = 0 := fun l h1 h2 => zf_cNo W (fun p h3 => zf_qZ (hZ l h1 h2 p h3))
  have wF : ∀ l, zf_w false W V l = W := fun l => zf_cAll W (fun p _ => zf_qN)
  have kT : ∀ l, l < C → (l ≠ l0 ∨ y = 0) → zf_k true W V l = false := fun l h1 h2 => zf_anZ W (hZ l h1 h2)
  by_cases h0 : y = 0
  · rw [decide_eq_false (fun w => w h0)]
    cases sp
    · cases sl
      · rw [if_neg (by decide), if_neg (by decide)]
        exact zf_oAll C (fun l h1 => ⟨zf_kN, wF l⟩)
      · rw [if_neg (by decide), if_pos rfl, if_neg (by decide)]
        exact zf_oNo C (fun l h1 => Or.inl (kT l h1 (Or.inr h0)))
    · rw [if_pos rfl, if_neg (by decide)]
      exact zf_oNo C (fun l h1 => Or.inr (wT l h1 (Or.inr h0)))
  · rw [decide_eq_true h0]
    have hn : ¬ V l0 p0 = 0 := by rw [hY]; exact h0
    cases sp
    · cases sl
      · rw [if_neg (by decide), if_neg (by decide)]
        exact zf_oAll C (fun l h1 => ⟨zf_kN, wF l⟩)
      · have hk : zf_k true W V l0 = true := zf_anT hp hn
        rw [if_neg (by decide), if_pos rfl, if_pos rfl, zf_oOne (t := l0) C hk (fun l h1 h2 => Or.inl (kT l h1 (Or.inl h2))), if_pos hl]
        exact wF l0
    · have hk : zf_k sl W V l0 = true := by
        cases sl
        · exact zf_kN
        · exact zf_anT hp hn
      rw [if_pos rfl, if_pos rfl, zf_oOne (t := l0) C hk (fun l h1 h2 => Or.inr (wT l h1 (Or.inl h2))), if_pos hl]
      have e1 : zf_w true W V l0 = if p0 < W then 1 else 0 := zf_cOne (t := p0) W (zf_qT hn) (fun p h1 h2 => zf_qZ (by rw [hV l0 hl p h1, if_neg (fun w => h2 w.2)]))
      rw [e1, if_pos hp]
theorem zf_stZ {s rk n m f i j : Nat} {y : Int32} {a1 a2 a3 a4 a5 a6 a7 a8 a9 : Nat → Int32} (hy : y = 0) (h : zf_st s rk n m f i j y a1 a2 a3 a4 a5 a6 a7 a8 a9) : ∃ V, (∀ l, l < zf_C rk n m f → ∀ p, p < zf_W rk n m f → V l p = 0) ∧ zf_slot s rk n m f V a1 a2 a3 a4 a5 a6 a7 a8 a9 := by
  obtain ⟨V, hV, hs⟩ := h
  refine ⟨V, fun l hl p hp => ?_, hs⟩
  rw [hV l hl p hp, hy]
  split <;> rfl
theorem zf_Zst {s rk n m f : Nat} {V : Nat → Nat → Int32} {a1 a2 a3 a4 a5 a6 a7 a8 a9 : Nat → Int32} (hV : ∀ l, l < zf_C rk n m f → ∀ p, p < zf_W rk n m f → V l p = 0) (h : zf_slot s rk n m f V a1 a2 a3 a4 a5 a6 a7 a8 a9) : zf_st s rk n m f 0 0 0 a1 a2 a3 a4 a5 a6 a7 a8 a9 := by
  refine ⟨V, fun l hl p hp => ?_, h⟩
  rw [hV l hl p hp]
  split <;> rfl
section
variable {g1 g2 g3 g4 : Int32} {a1 a2 a3 a4 a5 a6 a7 a8 a9 a10 a11 a12 a13 a14 a15 a16 a17 a18 a19 a20 a21 a22 a23 a24 a25 a26 a27 a28 : Nat → Int32}
theorem zf_getI {post : Int32 → Prop} {s rk n m f i j : Nat} {p1 p2 y : Int32} (hs : s < 6) (sh : zf_sh rk n m f) (h : zf_st s rk n m f i j y a1 a2 a3 a4 a5 a6 a7 a8 a9) (hi : i < n) (hj : j < m) (e1 : p1 = nI i) (e2 : p2 = nI j) (H : post y) : wpX_get post (g1, g2, g3, g4, a1, a2, a3, a4, a5, a6, a7, a8, a9, a10, a11, a12, a13, a14, a15, a16, a17, a18, a19, a20, a21, a22, a23, a24, a25, a26, a27, a28) (nI s) p1 p2 := by
  have hb := zf_shB sh
  obtain ⟨V, hV, hsl⟩ := h
  refine zf_get hs sh hsl (fun i' j' hi' hj' e1' e2' => ?_) (fun z => absurd ⟨i, j, hi, hj, e1, e2⟩ z)
  have q1 : i = i' := (nI_eq (by omega) (by omega)).mp (e1.symm.trans e1')
  have q2 : j = j' := (nI_eq (by omega) (by omega)).mp (e2.symm.trans e2')
  have hB := zf_liB sh hi hj
  rw [← q1, ← q2, hV _ hB.1 _ hB.2, if_pos ⟨rfl, rfl⟩]
  exact H
theorem zf_getO {post : Int32 → Prop} {s rk n m f i j : Nat} {p1 p2 y : Int32} (hs : s < 6) (sh : zf_sh rk n m f) (h : zf_st s rk n m f i j y a1 a2 a3 a4 a5 a6 a7 a8 a9) (hno : ¬ (∃ i j : Nat, i < n ∧ j < m ∧ p1 = nI i ∧ p2 = nI j)) (H : post (-1000000004)) : wpX_get post (g1, g2, g3, g4, a1, a2, a3, a4, a5, a6, a7, a8, a9, a10, a11, a12, a13, a14, a15, a16, a17, a18, a19, a20, a21, a22, a23, a24, a25, a26, a27, a28) (nI s) p1 p2 := by
  obtain ⟨V, hV, hsl⟩ := h
  exact zf_get hs sh hsl (fun i' j' hi' hj' e1' e2' => absurd ⟨i', j', hi', hj', e1', e2'⟩ hno) (fun _ => H)
theorem zf_roomI {post : Int32 → Prop} {s rk n m f i j : Nat} {y : Int32} (hs : s < 6) (sh : zf_sh rk n m f) (h : zf_st s rk n m f i j y a1 a2 a3 a4 a5 a6 a7 a8 a9) (hi : i < n) (hj : j < m) (H : post (nI (zf_rm rk n m f (decide (¬ y = 0))))) : wpX_room post (g1, g2, g3, g4, a1, a2, a3, a4, a5, a6, a7, a8, a9, a10, a11, a12, a13, a14, a15, a16, a17, a18, a19, a20, a21, a22, a23, a24, a25, a26, a27, a28) (nI s) := by
  obtain ⟨V, hV, hsl⟩ := h
  have hB := zf_liB sh hi hj
  refine zf_room hs sh hsl ?_
  rw [zf_offV hB.1 hB.2 hV]
  exact H
/-- a row where only the place j0 may be other than 0 -/
theorem zf_patI {post : Int32 → Prop} {s rk n m f i j : Nat} {p1 y : Int32} (hs : s < 6) (sh : zf_sh rk n m f) (h : zf_st s rk n m f i j y a1 a2 a3 a4 a5 a6 a7 a8 a9) (hi : i < n) (hj : j < m) (e1 : p1 = nI i) (H : post (if y = 0 then 0 else (1 : Int32) <<< (nI j &&& 31))) : wpX_pattern post (g1, g2, g3, g4, a1, a2, a3, a4, a5, a6, a7, a8, a9, a10, a11, a12, a13, a14, a15, a16, a17, a18, a19, a20, a21, a22, a23, a24, a25, a26, a27, a28) (nI s) p1 := by
  have hb := zf_shB sh
  obtain ⟨V, hV, hsl⟩ := h
  refine zf_pattern (j0 := j) (y := y) hs sh hsl (fun i' e hi' j' hj' => ?_) (fun i' hi' e => ?_) (fun z => absurd ⟨i, hi, e1⟩ z)
  · have q : i = i' := (nI_eq (by omega) (by omega)).mp (e1.symm.trans e)
    subst q
    have hB := zf_liB sh hi hj'
    rw [hV _ hB.1 _ hB.2]
    have hiff : (zf_li rk f i j' = zf_li rk f i j ∧ zf_pi rk f i j' = zf_pi rk f i j) ↔ j' = j := by
      unfold zf_sh at sh
      unfold zf_li zf_pi
      by_cases h2 : rk < 2
      · rw [if_pos h2, if_pos h2, if_pos h2, if_pos h2]
        omega
      · rw [if_neg h2, if_neg h2, if_neg h2, if_neg h2]
        by_cases h4 : f < 4
        · rw [if_pos h4, if_pos h4, if_pos h4, if_pos h4]
          omega
        · rw [if_neg h4, if_neg h4, if_neg h4, if_neg h4]
          omega
    by_cases e' : j' = j
    · rw [if_pos e', if_pos (hiff.mpr e')]
    · rw [if_neg e', if_neg (fun w => e' (hiff.mp w))]
  · by_cases h0 : y = 0
    · rw [if_pos h0] at H
      rw [if_neg (fun w => w.1 h0)]
      exact H
    · rw [if_neg h0] at H
      rw [if_pos ⟨h0, hj⟩]
      exact H
theorem zf_patZ {post : Int32 → Prop} {s rk n m f i : Nat} {p1 : Int32} (hs : s < 6) (sh : zf_sh rk n m f) (h : zf_st s rk n m f 0 0 0 a1 a2 a3 a4 a5 a6 a7 a8 a9) (hi : i < n) (e1 : p1 = nI i) (H : post 0) : wpX_pattern post (g1, g2, g3, g4, a1, a2, a3, a4, a5, a6, a7, a8, a9, a10, a11, a12, a13, a14, a15, a16, a17, a18, a19, a20, a21, a22, a23, a24, a25, a26, a27, a28) (nI s) p1 := by
  obtain ⟨V, hV, hsl⟩ := zf_stZ rfl h
  refine zf_pattern (j0 := 0) (y := 0) hs sh hsl (fun i' e hi' j' hj' => ?_) (fun i' hi' e => ?_) (fun z => absurd ⟨i, hi, e1⟩ z)
  · have hB := zf_liB sh hi' hj'
    rw [hV _ hB.1 _ hB.2]
    split <;> rfl
  · rw [if_neg (fun w => w.1 rfl)]
    exact H
theorem zf_patO {post : Int32 → Prop} {s rk n m f : Nat} {p1 : Int32} (hs : s < 6) (sh : zf_sh rk n m f) (h : zf_st s rk n m f 0 0 0 a1 a2 a3 a4 a5 a6 a7 a8 a9) (hno : ¬ (∃ i : Nat, i < n ∧ p1 = nI i)) (H : post (-1000000004)) : wpX_pattern post (g1, g2, g3, g4, a1, a2, a3, a4, a5, a6, a7, a8, a9, a10, a11, a12, a13, a14, a15, a16, a17, a18, a19, a20, a21, a22, a23, a24, a25, a26, a27, a28) (nI s) p1 := by
  obtain ⟨V, hV, hsl⟩ := zf_stZ rfl h
  exact zf_pattern (j0 := 0) (y := 0) hs sh hsl (fun i' e hi' j' hj' => absurd ⟨i', hi', e⟩ hno) (fun i' hi' e => absurd ⟨i', hi', e⟩ hno) (fun _ => H)
theorem zf_arrI {post : Int32 → St2 → Prop} {s rk n m f i j : Nat} {p q y : Int32} (hs : s < 6) (sh : zf_sh rk n m f) (h : zf_st s rk n m f i j y a1 a2 a3 a4 a5 a6 a7 a8 a9) (HG : ∀ v, (zf_ok rk p q → v = 1) → (¬ zf_ok rk p q → v = -1000000001) → ∀ u, post v u) : wpX_array post (0, 0, 0, g4, a1, a2, a3, a4, a5, a6, a7, a8, a9, a10, a11, a12, a13, a14, a15, a16, a17, a18, a19, a20, a21, a22, a23, a24, a25, a26, a27, a28) (nI s) p q := by
  obtain ⟨V, hV, hsl⟩ := h
  exact zf_array hs sh hsl (fun w => HG 1 (fun _ => rfl) (fun z => absurd w z)) (fun w => HG _ (fun z => absurd z w) (fun _ => rfl))
end
end
section
/-! the law -/
theorem zf_cell {post : Int32 → Prop} {L : Nat} {xs : Nat → Int32} (hL : L ≤ 5) (k : Nat) (hk : k ≤ 4) (H : ∀ v, post v) : wpL_cellAt post L xs () (nI k) :=
  pk_le L k (fun _ => H 0) (fun z => ⟨pk_in k L z, H _⟩)
theorem zf_inb {s : Nat} {A A' B : Prop} (hs : s < 6) (K : B) : ((nI s < 0 → A) ∧ (¬ nI s < 0 → ((5 < nI s → A') ∧ (¬ 5 < nI s → B)))) :=
  pk_lt s 0 (fun z => absurd z (by omega)) (fun _ => pk_lt 5 s (fun z => absurd z (by omega)) (fun _ => K))
theorem zf_s1 {x : Int32} (h : x - 1 = nI 0) : x = 1 := by
  have e : x = (x - 1) + 1 := by grind
  rw [h] at e
  exact e
theorem zf_toN {x : Int32} (h : 0 ≤ x.toInt) : ∃ a : Nat, x = nI a ∧ x.toInt = a := by
  have h0 : ¬ x < 0 := by
    rw [Int32.lt_iff_toInt_lt, show (0 : Int32).toInt = 0 from rfl]
    omega
  obtain ⟨j, hj, e⟩ := nI_of h0
  exact ⟨j, e, by rw [e]; exact nI_toInt hj⟩
theorem zf_rm1 {a c : Nat} (hc : c ≤ 1) : zf_rm 1 a 1 c (decide (¬ (0 : Int32) = 0)) = if c = 1 then 0 else a := by
  have h : c = 0 ∨ c = 1 := by omega
  rcases h with h | h
  · subst h
    show 1 * a = a
    omega
  · subst h
    rfl
theorem zf_rm2 {a b c : Nat} {x : Int32} (hc : c ≤ 7) : zf_rm 2 a b c (decide (¬ x = 0)) = if c % 2 = 1 then (if x = 0 then 0 else 1) else if c = 2 ∨ c = 6 then (if x = 0 then 0 else if c ≤ 3 then b else a) else a * b := by
  have e1 : ∀ u v : Nat, (if decide (¬ x = 0) = true then u else v) = if x = 0 then v else u := by
    intro u v
    by_cases h : x = 0
    · rw [if_pos h, if_neg (by rw [decide_eq_false (fun w => w h)]; decide)]
    · rw [if_neg h, if_pos (decide_eq_true h)]
  unfold zf_rm
  rw [e1, e1]
  have h : c = 0 ∨ c = 1 ∨ c = 2 ∨ c = 3 ∨ c = 4 ∨ c = 5 ∨ c = 6 ∨ c = 7 := by omega
  rcases h with h | h | h | h | h | h | h | h <;> subst h
  · rfl
  · rfl
  · rfl
  · rfl
  · show b * a = a * b
    exact Nat.mul_comm b a
  · rfl
  · rfl
  · rfl
theorem zf_vIn {a b c : Nat} (h : (a = 0 ∧ b = 0 ∧ c = 0) ∨ (1 ≤ a ∧ a ≤ 6 ∧ b = 0 ∧ c ≤ 1) ∨ (1 ≤ a ∧ a ≤ 6 ∧ 1 ≤ b ∧ b ≤ 6 ∧ c ≤ 7)) : zf_vI (nI a).toInt (nI b).toInt (nI c).toInt := by
  rw [nI_toInt (by omega), nI_toInt (by omega), nI_toInt (by omega)]
  unfold zf_vI
  omega
theorem zf_lawOf (r n m f x : Int32) : wpL_lawOf (fun r_6 _ => r_6 = 1) 29 1432 () r n m f x := by
  unfold wpL_lawOf
  refine ⟨by omega, by omega, 28, 1400, by omega, by omega, zf_init (by omega) (by omega) (fun a1 a2 a3 a4 a5 a6 a7 a8 a9 a18 hz => ?_)⟩
  by_cases hr : r < 0 ∨ 5 < r
  · refine zf_makeR hr (zf_putR hr (zf_getR hr (zf_roomR hr (zf_patternR hr (zf_arrayR hr ?_)))))
    refine br_c (fun _ => ?_) (fun h0 => br_c (fun _ => ?_) (fun h5 => absurd hr (fun w => w.elim h0 h5)))
    · exact zf_l101 (fun h => absurd rfl h) (fun h => absurd rfl h) (fun h => absurd rfl h) (fun _ => zf_lawA rfl rfl rfl rfl rfl rfl rfl)
    · exact zf_l101 (fun h => absurd rfl h) (fun h => absurd rfl h) (fun h => absurd rfl h) (fun _ => zf_lawA rfl rfl rfl rfl rfl rfl rfl)
  · have hr' : ∃ s : Nat, s < 6 ∧ r = nI s := by
      obtain ⟨s, hs, e⟩ := nI_of (x := r) (fun w => hr (Or.inl w))
      subst e
      refine ⟨s, ?_, rfl⟩
      rcases Nat.lt_or_ge s 6 with z | z
      · exact z
      · exact absurd (Or.inr (nI_lt (a := 5) (by omega) hs)) hr
    obtain ⟨s, hs, er⟩ := hr'
    subst er
    refine zf_make hs (fun a b c rk n' m' hv e1 e2 e3 b1 b2 b3 b4 b5 b6 b7 b8 b9 b18 hst => ?_) (fun hn => ?_)
    · obtain ⟨V, hV, hsl⟩ := zf_stZ rfl hst
      have sh := zf_vdS hv
      subst e1 e2 e3
      unfold zf_vd at hv
      rcases hv with ⟨ha, hb, hc, hk, hn', hm'⟩ | ⟨ha, ha', hb, hc, hk, hn', hm'⟩ | ⟨ha, ha', hb, hb', hc, hk, hn', hm'⟩
      · subst ha hb hc hk hn' hm'
        refine zf_put hs sh hsl hV (fun i j hi hj q1 q2 => absurd q1.symm (zf_nm1 (by omega))) (fun hno => ?_)
        refine zf_getO hs sh hst hno (zf_roomI hs sh hst (i := 0) (j := 0) (by omega) (by omega) (zf_patO hs sh hst (fun ⟨i, hi, q1⟩ => absurd q1.symm (zf_nm1 (by omega))) (zf_arrI hs sh hst (fun v g1 g2 u => zf_inb hs ?_))))
        refine zf_l101 (fun _ h1 => absurd h1 (by decide)) (fun _ h1 => absurd h1 (by decide)) (fun _ _ _ _ => ?_) (fun h => absurd (zf_vIn (by omega)) (h (by decide)))
        exact zf_law0 (by decide) (by rw [if_neg (by decide)]; rfl) (fun w => absurd w (by decide)) (fun _ => ⟨rfl, rfl⟩) rfl (fun _ => rfl) (fun w => absurd w (by decide)) (fun w => absurd w (by decide)) g1 g2 rfl
      · subst hb hk hn' hm'
        refine zf_put hs sh hsl hV (fun i j hi hj q1 q2 => absurd q2.symm (zf_nm1 (by omega))) (fun hno => ?_)
        have ea : nI n' - 1 = nI (n' - 1) := by
          rw [show n' = n' - 1 + 1 by omega]
          exact nI_pred _
        refine zf_getO hs sh hst hno (zf_roomI hs sh hst (i := 0) (j := 0) (by omega) (by omega) (zf_patZ hs sh hst (i := n' - 1) (by omega) ea (zf_arrI hs sh hst (fun v g1 g2 u => zf_inb hs ?_))))
        refine zf_l101 (fun _ _ _ h3 => absurd h3 (by decide)) (fun _ _ _ _ _ _ => ?_) (fun _ h1 => absurd h1 (by rw [nI_toInt (by omega)]; omega)) (fun h => absurd (zf_vIn (by omega)) (h (by decide)))
        exact zf_law1 (by decide) (by decide) hc rfl rfl rfl rfl rfl rfl (by rw [zf_rm1 hc]) rfl g1 g2 rfl
      · subst hk hn' hm'
        have ea : nI n' - 1 = nI (n' - 1) := by
          rw [show n' = n' - 1 + 1 by omega]
          exact nI_pred _
        have eb : nI m' - 1 = nI (m' - 1) := by
          rw [show m' = m' - 1 + 1 by omega]
          exact nI_pred _
        refine zf_put hs sh hsl hV (fun i j hi hj q1 q2 c1 c2 c3 c4 c5 c6 c7 c8 c9 c18 hst2 => ?_) (fun hno => absurd ⟨n' - 1, m' - 1, by omega, by omega, ea, eb⟩ hno)
        refine zf_getI hs sh hst2 hi hj q1 q2 (zf_roomI hs sh hst2 hi hj (zf_patI hs sh hst2 hi hj q1 (zf_arrI hs sh hst2 (fun v g1 g2 u => zf_inb hs ?_))))
        refine zf_l101 (fun _ _ _ _ _ _ _ => ?_) (fun _ _ _ h3 => absurd h3 (by rw [nI_toInt (by omega)]; omega)) (fun _ h1 => absurd h1 (by rw [nI_toInt (by omega)]; omega)) (fun h => absurd (zf_vIn (by omega)) (h (by decide)))
        exact zf_law2 (by decide) (by decide) hc rfl rfl rfl rfl rfl rfl (by rw [zf_rm2 hc]) (by rw [q2]) g1 g2 rfl
    · obtain ⟨V, hV, hsl⟩ := hz s hs
      have hV' : ∀ l, l < zf_C 0 1 1 0 → ∀ p, p < zf_W 0 1 1 0 → V l p = 0 := hV
      have hst := zf_Zst hV' hsl
      have law : ∀ v7 v8 v9 v10 v11 : Int32, (n = 1 → m = 1 → v7 = 0 ∧ v8 = x) → (¬ (n = 1 ∧ m = 1) → v7 = -1000000001 - 3 ∧ v8 = -1000000001 - 3) → v9 = 1 → (¬ n = 1 → v10 = -1000000001 - 3) → (n = 1 → m = 1 → v10 = if x = 0 then 0 else (1 : Int32) <<< ((m - 1) &&& 31)) → (n = 1 → ¬ m = 1 → v10 = 0) → (zf_ok 0 (m - 1) (n - 1) → v11 = 1) → (¬ zf_ok 0 (m - 1) (n - 1) → v11 = -1000000001) →
          wL_lawOf_101 (fun r_6 _ => r_6 = 1) 29 1432 n m f x (-1000000001) v7 v8 v9 v10 v11 (-1000000001) 1 (1 + 28) (32 + 1400) := by
        intro v7 v8 v9 v10 v11 f1 f2 f3 f4 f5 f6 f7 f8
        refine zf_l101 (fun _ h1 h2 h3 h4 h5 h6 => ?_) (fun _ h1 h2 h3 h5 h6 => ?_) (fun _ h1 h3 h5 => ?_) (fun _ => zf_law0 (by decide) (by rw [if_pos rfl]) f1 f2 f3 f4 f5 f6 f7 f8 rfl)
        · obtain ⟨a, q1, w1⟩ := zf_toN (x := n) (by omega)
          obtain ⟨b, q2, w2⟩ := zf_toN (x := m) (by omega)
          obtain ⟨c, q3, w3⟩ := zf_toN (x := f) (by omega)
          exact absurd ⟨a, b, c, 2, a, b, by unfold zf_vd; omega, q1, q2, q3⟩ hn
        · obtain ⟨a, q1, w1⟩ := zf_toN (x := n) (by omega)
          obtain ⟨b, q2, w2⟩ := zf_toN (x := m) (by omega)
          obtain ⟨c, q3, w3⟩ := zf_toN (x := f) (by omega)
          exact absurd ⟨a, b, c, 1, a, 1, by unfold zf_vd; omega, q1, q2, q3⟩ hn
        · obtain ⟨a, q1, w1⟩ := zf_toN (x := n) (by omega)
          obtain ⟨b, q2, w2⟩ := zf_toN (x := m) (by omega)
          obtain ⟨c, q3, w3⟩ := zf_toN (x := f) (by omega)
          exact absurd ⟨a, b, c, 0, 1, 1, by unfold zf_vd; omega, q1, q2, q3⟩ hn
      refine zf_put hs zf_sh0 hsl hV' (fun i j hi hj q1 q2 c1 c2 c3 c4 c5 c6 c7 c8 c9 c18 hst2 => ?_) (fun hno => ?_)
      · have hi0 : i = 0 := by omega
        have hj0 : j = 0 := by omega
        subst hi0 hj0
        have w1 := zf_s1 q1
        have w2 := zf_s1 q2
        refine zf_getI hs zf_sh0 hst2 hi hj q1 q2 (zf_roomI hs zf_sh0 hst2 hi hj (zf_patI hs zf_sh0 hst2 hi hj q1 (zf_arrI hs zf_sh0 hst2 (fun v g1 g2 u => zf_inb hs (law _ _ _ _ _ ?_ ?_ ?_ ?_ ?_ ?_ g1 g2)))))
        · exact fun _ _ => ⟨rfl, rfl⟩
        · exact fun w => absurd ⟨w1, w2⟩ w
        · rfl
        · exact fun w => absurd w1 w
        · exact fun _ _ => by rw [q2]
        · exact fun _ w => absurd w2 w
      · have hnn : ¬ (n = 1 ∧ m = 1) := fun w => hno ⟨0, 0, by omega, by omega, by rw [w.1]; rfl, by rw [w.2]; rfl⟩
        by_cases hn1 : n = 1
        · refine zf_getO hs zf_sh0 hst hno (zf_roomI hs zf_sh0 hst (i := 0) (j := 0) (by omega) (by omega) (zf_patZ hs zf_sh0 hst (i := 0) (by omega) (by rw [hn1]; rfl) (zf_arrI hs zf_sh0 hst (fun v g1 g2 u => zf_inb hs (law _ _ _ _ _ ?_ ?_ ?_ ?_ ?_ ?_ g1 g2)))))
          · exact fun q1 q2 => absurd ⟨q1, q2⟩ hnn
          · exact fun _ => ⟨rfl, rfl⟩
          · rfl
          · exact fun w => absurd hn1 w
          · exact fun q1 q2 => absurd ⟨q1, q2⟩ hnn
          · exact fun _ _ => rfl
        · refine zf_getO hs zf_sh0 hst hno (zf_roomI hs zf_sh0 hst (i := 0) (j := 0) (by omega) (by omega) (zf_patO hs zf_sh0 hst (fun ⟨i, hi, q1⟩ => hn1 (zf_s1 (by rw [q1, show i = 0 by omega]))) (zf_arrI hs zf_sh0 hst (fun v g1 g2 u => zf_inb hs (law _ _ _ _ _ ?_ ?_ ?_ ?_ ?_ ?_ g1 g2)))))
          · exact fun q1 => absurd q1 hn1
          · exact fun _ => ⟨rfl, rfl⟩
          · rfl
          · exact fun _ => rfl
          · exact fun q1 => absurd q1 hn1
          · exact fun q1 => absurd q1 hn1
theorem i_vc (xs : Nat → Int32) (L : Nat) (hL : L ≤ 5) : wpL_law (fun r => r = 1) L xs := by
  unfold wpL_law
  exact zf_cell hL 0 (by omega) (fun r => zf_cell hL 1 (by omega) (fun n => zf_cell hL 2 (by omega) (fun m => zf_cell hL 3 (by omega) (fun f => zf_cell hL 4 (by omega) (fun x => ⟨29, 1432, by omega, by omega, zf_lawOf r n m f x⟩)))))
end
