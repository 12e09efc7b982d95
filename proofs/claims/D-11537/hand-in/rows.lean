section
/-! ints that may be negative: sw_i z, z small -/
def sw_i (z : Int) : Int32 := Int32.ofInt z
theorem sw_iN (n : Nat) : nI n = sw_i (n : Int) := Int32.ofInt_eq_ofNat.symm
theorem sw_ti {z : Int} (h : -1000000 ≤ z ∧ z ≤ 1000000) : (sw_i z).toInt = z :=
  Int32.toInt_ofInt_of_le (Int.le_trans (by decide) h.1) (Int.lt_of_le_of_lt h.2 (by decide))
theorem sw_leI {a b : Int} (ha : -1000000 ≤ a ∧ a ≤ 1000000) (hb : -1000000 ≤ b ∧ b ≤ 1000000) : sw_i a ≤ sw_i b ↔ a ≤ b := by
  rw [Int32.le_iff_toInt_le, sw_ti ha, sw_ti hb]
theorem sw_ltI {a b : Int} (ha : -1000000 ≤ a ∧ a ≤ 1000000) (hb : -1000000 ≤ b ∧ b ≤ 1000000) : sw_i a < sw_i b ↔ a < b := by
  rw [Int32.lt_iff_toInt_lt, sw_ti ha, sw_ti hb]
theorem sw_eqI {a b : Int} (ha : -1000000 ≤ a ∧ a ≤ 1000000) (hb : -1000000 ≤ b ∧ b ≤ 1000000) : sw_i a = sw_i b ↔ a = b :=
  ⟨fun h => by
    have h2 := congrArg Int32.toInt h
    rw [sw_ti ha, sw_ti hb] at h2
    exact h2, fun h => by rw [h]⟩
theorem sw_ble {x y : Int32} {A B : Prop} (a b : Int) (f : a ≤ b → A) (g : b < a → B) (hx : x = sw_i a := by rfl) (hy : y = sw_i b := by rfl) (ha : -1000000 ≤ a ∧ a ≤ 1000000 := by omega) (hb : -1000000 ≤ b ∧ b ≤ 1000000 := by omega) : (x ≤ y → A) ∧ (¬ x ≤ y → B) := by
  subst hx hy
  rw [sw_leI ha hb]
  exact ⟨f, fun z => g (by omega)⟩
theorem sw_blt {x y : Int32} {A B : Prop} (a b : Int) (f : a < b → A) (g : b ≤ a → B) (hx : x = sw_i a := by rfl) (hy : y = sw_i b := by rfl) (ha : -1000000 ≤ a ∧ a ≤ 1000000 := by omega) (hb : -1000000 ≤ b ∧ b ≤ 1000000 := by omega) : (x < y → A) ∧ (¬ x < y → B) := by
  subst hx hy
  rw [sw_ltI ha hb]
  exact ⟨f, fun z => g (by omega)⟩
theorem sw_beq {x y : Int32} {A B : Prop} (a b : Int) (f : a = b → A) (g : a ≠ b → B) (hx : x = sw_i a := by rfl) (hy : y = sw_i b := by rfl) (ha : -1000000 ≤ a ∧ a ≤ 1000000 := by omega) (hb : -1000000 ≤ b ∧ b ≤ 1000000 := by omega) : (x = y → A) ∧ (¬ x = y → B) := by
  subst hx hy
  rw [sw_eqI ha hb]
  exact ⟨f, g⟩
theorem sw_sub (a b : Int) : sw_i a - sw_i b = sw_i (a - b) := (Int32.ofInt_sub a b).symm
theorem sw_subN (a : Int) (n : Nat) : sw_i a - nI n = sw_i (a - n) := by rw [sw_iN, sw_sub]
theorem sw_subNN (m n : Nat) : nI m - nI n = sw_i ((m : Int) - n) := by rw [sw_iN, sw_iN, sw_sub]
theorem sw_m1000 : sw_i (-1000) = -1000 := by decide
theorem sw_1000 : sw_i 1000 = 1000 := by decide
theorem sw_0 : sw_i 0 = 0 := by decide
/-- places: 64 * k + w -/
theorem sw_at (k w : Nat) : (64 : Int32) * nI k + nI w = nI (64 * k + w) := by
  rw [show (64 : Int32) = nI 64 from rfl, pk_mul, nI_add]
theorem sw_at20 (k w : Nat) : (20 : Int32) * nI k + nI w = nI (20 * k + w) := by
  rw [show (20 : Int32) = nI 20 from rfl, pk_mul, nI_add]
theorem sw_at7 (k w : Nat) : (7 : Int32) * nI k + nI w = nI (7 * k + w) := by
  rw [show (7 : Int32) = nI 7 from rfl, pk_mul, nI_add]
theorem sw_mulL (c k : Nat) : Int32.ofNat c * nI k = nI (c * k) := pk_mul c k
theorem sw_addL (k c : Nat) : nI k + Int32.ofNat c = nI (k + c) := nI_add k c
theorem sw_end (w st : Nat) : (nI w + 1) * nI st = nI ((w + 1) * st) := by rw [nI_1, pk_mul]
/-- a time lies ahead of the end of its pane -/
theorem sw_tE (t st : Nat) (h : 1 ≤ st) : t < (t / st + 1) * st := by
  have h1 := Nat.div_add_mod t st
  have h2 := Nat.mod_lt t (show 0 < st by omega)
  have h3 : (t / st + 1) * st = st * (t / st) + st := by rw [Nat.add_mul, Nat.one_mul, Nat.mul_comm]
  omega
theorem sw_dE (t st : Nat) : t / st * st + st = (t / st + 1) * st := by rw [Nat.add_mul, Nat.one_mul]
theorem sw_dlt {t st : Nat} (h : t < 64) : t / st < 64 := Nat.lt_of_le_of_lt (Nat.div_le_self t st) h
/-- ends grow with the window -/
theorem sw_mono {w v st : Nat} (h : w < v) : (w + 1) * st ≤ v * st := Nat.mul_le_mul_right st h
theorem sw_E8 {w st : Nat} (hw : w ≤ 64) (hst : st ≤ 8) : (w + 1) * st ≤ 520 :=
  Nat.le_trans (Nat.mul_le_mul (show w + 1 ≤ 65 by omega) hst) (by decide)
theorem sw_E1 {w st : Nat} (hst : 1 ≤ st) : w + 1 ≤ (w + 1) * st := Nat.le_mul_of_pos_right (w + 1) hst
/-! the mark -/
/-- what a source has to say: g its greatest time -/
def sw_own (lt : Nat) (g : Int) : Int := if g = -1000 then -1000 else g - lt
/-- one source more: d: is it idle -/
def sw_lst (lt : Nat) (d : Int32) (g x : Int) : Int := if d = 0 then (if x ≤ sw_own lt g then x else sw_own lt g) else x
def sw_ls3 (lt : Nat) (g0 g1 g2 : Int) (d0 d1 d2 : Int32) : Int := sw_lst lt d2 g2 (sw_lst lt d1 g1 (sw_lst lt d0 g0 1000))
/-- the new mark -/
def sw_nm (lt : Nat) (mk : Int) (g0 g1 g2 : Int) (d0 d1 d2 : Int32) : Int :=
  if 1000 ≤ sw_ls3 lt g0 g1 g2 d0 d1 d2 then mk else if sw_ls3 lt g0 g1 g2 d0 d1 d2 ≤ mk then mk else sw_ls3 lt g0 g1 g2 d0 d1 d2
theorem sw_ownB {lt : Nat} {g : Int} (hl : lt ≤ 20) (hg : -1000 ≤ g ∧ g ≤ 63) : -1020 ≤ sw_own lt g ∧ sw_own lt g ≤ 63 := by
  unfold sw_own
  split <;> omega
theorem sw_lstB {lt : Nat} {d : Int32} {g x : Int} (hl : lt ≤ 20) (hg : -1000 ≤ g ∧ g ≤ 63) (hx : -1020 ≤ x ∧ (x ≤ 63 ∨ x = 1000)) : -1020 ≤ sw_lst lt d g x ∧ (sw_lst lt d g x ≤ 63 ∨ sw_lst lt d g x = 1000) := by
  have h := sw_ownB hl hg
  unfold sw_lst
  split
  · split <;> omega
  · exact hx
theorem sw_nmB {lt : Nat} {mk g0 g1 g2 : Int} {d0 d1 d2 : Int32} (hl : lt ≤ 20) (hm : -1000 ≤ mk ∧ mk ≤ 63) (h0 : -1000 ≤ g0 ∧ g0 ≤ 63) (h1 : -1000 ≤ g1 ∧ g1 ≤ 63) (h2 : -1000 ≤ g2 ∧ g2 ≤ 63) : -1000 ≤ sw_nm lt mk g0 g1 g2 d0 d1 d2 ∧ sw_nm lt mk g0 g1 g2 d0 d1 d2 ≤ 63 := by
  have h : -1020 ≤ sw_ls3 lt g0 g1 g2 d0 d1 d2 ∧ (sw_ls3 lt g0 g1 g2 d0 d1 d2 ≤ 63 ∨ sw_ls3 lt g0 g1 g2 d0 d1 d2 = 1000) :=
    sw_lstB hl h2 (sw_lstB hl h1 (sw_lstB hl h0 (by omega)))
  unfold sw_nm
  split
  · exact hm
  · split <;> omega
/-! windows that close -/
/-- from (nw, rc, b) to (nw', rc', b'): a8 the panes' counts, b the results' cells -/
def sw_CP (st : Nat) (mk : Int) (nw rc : Nat) (a8 b : Nat → Int32) (nw' rc' : Nat) (b' : Nat → Int32) : Prop :=
  nw ≤ nw' ∧ nw' ≤ 64 ∧ (nw < nw' → ((nw' * st : Nat) : Int) ≤ mk) ∧ rc ≤ rc' ∧ rc' + 4 * nw ≤ rc + 4 * nw' ∧ (∀ j, j < 7 * rc → b' j = b j) ∧
    (rc' ≠ rc → ∃ w k, nw ≤ w ∧ w < nw' ∧ k < 4 ∧ ¬ a8 (64 * k + w) ≤ 0)
def sw_CW (st : Nat) (mk : Int) (nw rc : Nat) (a8 b : Nat → Int32) (nw' rc' : Nat) (b' : Nat → Int32) : Prop :=
  sw_CP st mk nw rc a8 b nw' rc' b' ∧ mk < (((nw' + 1) * st : Nat) : Int)
theorem sw_CP0 {st : Nat} {mk : Int} {nw rc : Nat} {a8 b : Nat → Int32} (h : nw ≤ 64) : sw_CP st mk nw rc a8 b nw rc b :=
  ⟨Nat.le_refl _, h, fun z => absurd z (Nat.lt_irrefl _), Nat.le_refl _, by omega, fun _ _ => rfl, fun z => absurd rfl z⟩
/-- one window more -/
theorem sw_CPs {st : Nat} {mk : Int} {nw rc : Nat} {a8 b : Nat → Int32} {nw' rc' rc2 : Nat} {b' b2 : Nat → Int32} (h : sw_CP st mk nw rc a8 b nw' rc' b')
    (hn : nw' < 64) (hm : (((nw' + 1) * st : Nat) : Int) ≤ mk) (h1 : rc' ≤ rc2) (h2 : rc2 ≤ rc' + 4) (hb : ∀ j, j < 7 * rc' → b2 j = b' j) (he : rc2 ≠ rc' → ∃ k, k < 4 ∧ ¬ a8 (64 * k + nw') ≤ 0) :
    sw_CP st mk nw rc a8 b (nw' + 1) rc2 b2 := by
  obtain ⟨p1, p2, p3, p4, p5, p6, p7⟩ := h
  refine ⟨by omega, by omega, fun _ => hm, by omega, by omega, fun j hj => ?_, fun z => ?_⟩
  · rw [hb j (by omega), p6 j hj]
  · by_cases e : rc2 = rc'
    · obtain ⟨w, k, q1, q2, q3, q4⟩ := p7 (by omega)
      exact ⟨w, k, q1, by omega, q3, q4⟩
    · obtain ⟨k, q3, q4⟩ := he e
      exact ⟨nw', k, p1, by omega, q3, q4⟩
/-- nothing closes where the next window ends behind the mark -/
theorem sw_still {st : Nat} {mk : Int} {nw rc : Nat} {a8 b : Nat → Int32} {nw' rc' : Nat} {b' : Nat → Int32} (h : sw_CW st mk nw rc a8 b nw' rc' b') (hm : mk < (((nw + 1) * st : Nat) : Int)) : nw' = nw ∧ rc' = rc := by
  obtain ⟨⟨p1, p2, p3, p4, p5, p6, p7⟩, _⟩ := h
  have e : nw' = nw := by
    by_cases z : nw < nw'
    · have h1 := p3 z
      have h2 : (nw + 1) * st ≤ nw' * st := sw_mono z
      omega
    · omega
  subst e
  exact ⟨rfl, by omega⟩
/-- a window that was closed ended by the mark -/
theorem sw_past {st : Nat} {mk : Int} {nw rc : Nat} {a8 b : Nat → Int32} {nw' rc' : Nat} {b' : Nat → Int32} (h : sw_CW st mk nw rc a8 b nw' rc' b') {w : Nat} (h1 : nw ≤ w) (h2 : w < nw') : (((w + 1) * st : Nat) : Int) ≤ mk := by
  have h3 := h.1.2.2.1 (by omega)
  have h4 : (w + 1) * st ≤ nw' * st := sw_mono h2
  omega
/-- a window that ends by the mark was closed -/
theorem sw_gone {st : Nat} {mk : Int} {nw rc : Nat} {a8 b : Nat → Int32} {nw' rc' : Nat} {b' : Nat → Int32} (h : sw_CW st mk nw rc a8 b nw' rc' b') {w : Nat} (h1 : (((w + 1) * st : Nat) : Int) ≤ mk) : w < nw' := by
  have h2 := h.2
  by_cases z : w < nw'
  · exact z
  · have h3 : (nw' + 1) * st ≤ (w + 1) * st := Nat.mul_le_mul_right st (by omega)
    omega
/-! an event that is taken into its pane, or comes too late -/
def sw_TK (st : Nat) (mk : Int) (lc t k : Nat) (v : Int32) (a8 a9 : Nat → Int32) (lc' : Nat) (a8' a9' : Nat → Int32) : Prop :=
  (mk < (((t / st + 1) * st : Nat) : Int) ∧ lc' = lc ∧ a8' = upd a8 (64 * k + t / st) (a8 (64 * k + t / st) + 1) ∧ a9' = upd a9 (64 * k + t / st) (a9 (64 * k + t / st) + v)) ∨
  ((((t / st + 1) * st : Nat) : Int) ≤ mk ∧ lc' = lc + 1 ∧ a8' = a8 ∧ a9' = a9)
/-! the digest -/
def sw_wt : Nat → Int32
  | 0 => 1
  | 1 => 3
  | 2 => 5
  | 3 => 7
  | 4 => 11
  | 5 => 13
  | _ => 17
def sw_in (b : Nat → Int32) (i : Nat) : Nat → Int32
  | 0 => 0
  | m + 1 => sw_in b i m + sw_wt m * b (7 * i + m)
def sw_dg (b : Nat → Int32) : Nat → Int32
  | 0 => 0
  | i + 1 => sw_dg b i + (nI i + 1) * sw_in b i 7
theorem sw_inC {b c : Nat → Int32} {i : Nat} : ∀ m, (∀ j, j < 7 * i + m → b j = c j) → sw_in b i m = sw_in c i m
  | 0, _ => rfl
  | m + 1, h => by
    show sw_in b i m + sw_wt m * b (7 * i + m) = sw_in c i m + sw_wt m * c (7 * i + m)
    rw [sw_inC m (fun j hj => h j (by omega)), h (7 * i + m) (by omega)]
theorem sw_dgC {b c : Nat → Int32} : ∀ n, (∀ j, j < 7 * n → b j = c j) → sw_dg b n = sw_dg c n
  | 0, _ => rfl
  | n + 1, h => by
    show sw_dg b n + (nI n + 1) * sw_in b n 7 = sw_dg c n + (nI n + 1) * sw_in c n 7
    rw [sw_dgC n (fun j hj => h j (by omega)), sw_inC 7 (fun j hj => h j (by omega))]
end
section
theorem sw_endO {post : Int32 → Prop} {kd wd pn lt mk lc nw rc km kl kw kr tc ts tl tm : Int32} {a1 a2 a3 a4 a5 a6 a7 a8 a9 a10 a11 a12 a13 a14 a15 a16 a17 a18 a19 a20 a21 a22 a23 a24 : Nat → Int32} {w : Int32} (H : post ((w + pn) * wd)) : wpX_endOf post (kd, wd, pn, lt, mk, lc, nw, rc, km, kl, kw, kr, tc, ts, tl, tm, a1, a2, a3, a4, a5, a6, a7, a8, a9, a10, a11, a12, a13, a14, a15, a16, a17, a18, a19, a20, a21, a22, a23, a24) w := H
theorem sw_lateO {post : Int32 → Prop} {kd wd pn lt mk lc nw rc km kl kw kr tc ts tl tm : Int32} {a1 a2 a3 a4 a5 a6 a7 a8 a9 a10 a11 a12 a13 a14 a15 a16 a17 a18 a19 a20 a21 a22 a23 a24 : Nat → Int32} (H : post lc) : wpX_late post (kd, wd, pn, lt, mk, lc, nw, rc, km, kl, kw, kr, tc, ts, tl, tm, a1, a2, a3, a4, a5, a6, a7, a8, a9, a10, a11, a12, a13, a14, a15, a16, a17, a18, a19, a20, a21, a22, a23, a24) := H
theorem sw_resO {post : Int32 → Prop} {kd wd pn lt mk lc nw rc km kl kw kr tc ts tl tm : Int32} {a1 a2 a3 a4 a5 a6 a7 a8 a9 a10 a11 a12 a13 a14 a15 a16 a17 a18 a19 a20 a21 a22 a23 a24 : Nat → Int32} (H : post rc) : wpX_results post (kd, wd, pn, lt, mk, lc, nw, rc, km, kl, kw, kr, tc, ts, tl, tm, a1, a2, a3, a4, a5, a6, a7, a8, a9, a10, a11, a12, a13, a14, a15, a16, a17, a18, a19, a20, a21, a22, a23, a24) := H
theorem sw_markO {post : Int32 → Prop} {kd wd pn lt mk lc nw rc km kl kw kr tc ts tl tm : Int32} {a1 a2 a3 a4 a5 a6 a7 a8 a9 a10 a11 a12 a13 a14 a15 a16 a17 a18 a19 a20 a21 a22 a23 a24 : Nat → Int32} (H : post mk) : wpX_mark post (kd, wd, pn, lt, mk, lc, nw, rc, km, kl, kw, kr, tc, ts, tl, tm, a1, a2, a3, a4, a5, a6, a7, a8, a9, a10, a11, a12, a13, a14, a15, a16, a17, a18, a19, a20, a21, a22, a23, a24) := H
/-- putTogether of one pane: window w, key k -/
theorem sw_put {post : St2 → Prop} {kd wd lt mk lc nw rc km kl kw kr tc ts tl tm : Int32} {a1 a2 a3 a4 a5 a6 a7 a8 a9 a10 a11 a12 a13 a14 a15 a16 a17 a18 a19 a20 a21 a22 a23 a24 : Nat → Int32} {w k : Nat} (hw : w < 64) (hk : k < 4)
    (H0 : a8 (64 * k + w) ≤ 0 → post (kd, wd, 1, lt, mk, lc, nw, rc, km, kl, kw, kr, 0, 0, 0, 0, a1, a2, a3, a4, a5, a6, a7, a8, a9, a10, a11, a12, a13, a14, a15, a16, a17, a18, a19, a20, a21, a22, a23, a24))
    (H1 : ¬ a8 (64 * k + w) ≤ 0 → post (kd, wd, 1, lt, mk, lc, nw, rc, km, kl, kw, kr, 0 + a8 (64 * k + w), 0 + a9 (64 * k + w), a10 (64 * k + w), a11 (64 * k + w), a1, a2, a3, a4, a5, a6, a7, a8, a9, a10, a11, a12, a13, a14, a15, a16, a17, a18, a19, a20, a21, a22, a23, a24)) :
    wpX_putTogether post (kd, wd, 1, lt, mk, lc, nw, rc, km, kl, kw, kr, tc, ts, tl, tm, a1, a2, a3, a4, a5, a6, a7, a8, a9, a10, a11, a12, a13, a14, a15, a16, a17, a18, a19, a20, a21, a22, a23, a24) (nI w) (nI k) := by
  have e : (64 : Int32) * nI k + nI w = nI (64 * k + w) := sw_at k w
  have ec : ((64 : Int32) * nI k + nI w).toNatClampNeg = 64 * k + w := pk_cl _ e
  have hi : vp_in ((64 : Int32) * nI k + nI w) 256 := pk_in (64 * k + w) 256 (by omega) e
  refine ⟨0 + 1 + 1, pk_le (w + 1) w (fun z => absurd z (by omega)) (fun _ => ?_) (nI_1 w)⟩
  refine br_f (nI_pos (by omega)) (pk_le 64 w (fun z => absurd z (by omega)) (fun _ => ⟨hi, br_c (fun z => ?_) (fun z => ?_)⟩))
  · refine nm_r (nI_1 w) (pk_le (w + 1) (w + 1) (fun _ => H0 ?_) (fun y => absurd y (by omega)) (nI_1 w))
    rw [← ec]
    exact z
  · have H1' := H1 (by rw [← ec]; exact z)
    refine br_t rfl ⟨hi, br_t rfl ⟨hi, hi, nm_r (congrArg (fun q => 0 + a8 q) ec) ⟨hi, nm_r (congrArg (fun q => 0 + a9 q) ec) ?_⟩⟩⟩
    refine nm_r (nI_1 w) (pk_le (w + 1) (w + 1) (fun _ => ?_) (fun y => absurd y (by omega)) (nI_1 w))
    rw [ec]
    exact H1'
/-- addResult, where there is room -/
theorem sw_addR {post : St2 → Prop} {kd wd pn lt mk lc nw km kl kw kr tc ts tl tm : Int32} {a1 a2 a3 a4 a5 a6 a7 a8 a9 a10 a11 a12 a13 a14 a15 a16 a17 a18 a19 a20 a21 a22 a23 a24 : Nat → Int32} {rc : Nat} {x y z : Int32} (hr : rc < 300)
    (H : ∀ b, (∀ j, j < 7 * rc → b j = a19 j) → post (kd, wd, pn, lt, mk, lc, nw, nI (rc + 1), km, kl, kw, kr, tc, ts, tl, tm, a1, a2, a3, a4, a5, a6, a7, a8, a9, a10, a11, a12, a13, a14, a15, a16, a17, a18, b, a20, a21, a22, a23, a24)) :
    wpX_addResult post (kd, wd, pn, lt, mk, lc, nw, nI rc, km, kl, kw, kr, tc, ts, tl, tm, a1, a2, a3, a4, a5, a6, a7, a8, a9, a10, a11, a12, a13, a14, a15, a16, a17, a18, a19, a20, a21, a22, a23, a24) x y z := by
  have e0 : (7 : Int32) * nI rc = nI (7 * rc) := sw_mulL 7 rc
  have c0 : (nI (7 * rc)).toNatClampNeg = 7 * rc := nI_clamp (by omega)
  have c1 : (nI (7 * rc) + 1).toNatClampNeg = 7 * rc + 1 := pk_cl _ (sw_addL (7 * rc) 1)
  have c2 : (nI (7 * rc) + 2).toNatClampNeg = 7 * rc + 2 := pk_cl _ (sw_addL (7 * rc) 2)
  have c3 : (nI (7 * rc) + 3).toNatClampNeg = 7 * rc + 3 := pk_cl _ (sw_addL (7 * rc) 3)
  have c4 : (nI (7 * rc) + 4).toNatClampNeg = 7 * rc + 4 := pk_cl _ (sw_addL (7 * rc) 4)
  have c5 : (nI (7 * rc) + 5).toNatClampNeg = 7 * rc + 5 := pk_cl _ (sw_addL (7 * rc) 5)
  have c6 : (nI (7 * rc) + 6).toNatClampNeg = 7 * rc + 6 := pk_cl _ (sw_addL (7 * rc) 6)
  refine nm_r e0 ⟨pk_in (7 * rc) 2100 (by omega), nm_e ⟨pk_in (7 * rc + 1) 2100 (by omega) (sw_addL _ 1), nm_e ⟨pk_in (7 * rc + 2) 2100 (by omega) (sw_addL _ 2), nm_e ⟨pk_in (7 * rc + 3) 2100 (by omega) (sw_addL _ 3), nm_e ⟨pk_in (7 * rc + 4) 2100 (by omega) (sw_addL _ 4), nm_e ⟨pk_in (7 * rc + 5) 2100 (by omega) (sw_addL _ 5), nm_e ⟨pk_in (7 * rc + 6) 2100 (by omega) (sw_addL _ 6), nm_e (nm_r (nI_1 rc) (H _ (fun j hj => ?_)))⟩⟩⟩⟩⟩⟩⟩
  rw [c0, c1, c2, c3, c4, c5, c6, pk_un (by omega), pk_un (by omega), pk_un (by omega), pk_un (by omega), pk_un (by omega), pk_un (by omega), pk_un (by omega)]
/-- closeWindows: the four keys of window nw -/
theorem sw_cl26 {post : St2 → Prop} {J : Int32 → Int32 → Int32 → Int32 → Int32 → Int32 → Int32 → Int32 → Int32 → Int32 → Int32 → Int32 → Int32 → Int32 → Int32 → Int32 → (Nat → Int32) → (Nat → Int32) → (Nat → Int32) → (Nat → Int32) → (Nat → Int32) → (Nat → Int32) → (Nat → Int32) → (Nat → Int32) → (Nat → Int32) → (Nat → Int32) → (Nat → Int32) → (Nat → Int32) → (Nat → Int32) → (Nat → Int32) → (Nat → Int32) → (Nat → Int32) → (Nat → Int32) → (Nat → Int32) → (Nat → Int32) → (Nat → Int32) → (Nat → Int32) → (Nat → Int32) → (Nat → Int32) → (Nat → Int32) → Prop}
    {kd wd lt mk lc km kl kw kr tc ts tl tm : Int32} {a1 a2 a3 a4 a5 a6 a7 a8 a9 a10 a11 a12 a13 a14 a15 a16 a17 a18 a19 a20 a21 a22 a23 a24 : Nat → Int32} {nw rc : Nat} (hw : nw < 64) (hr : rc ≤ 4 * nw)
    (H : ∀ rc' tc' ts' tl' tm' b, rc ≤ rc' → rc' ≤ rc + 4 → (∀ j, j < 7 * rc → b j = a19 j) → (rc' ≠ rc → ∃ k, k < 4 ∧ ¬ a8 (64 * k + nw) ≤ 0) → J kd wd 1 lt mk lc (nI (nw + 1)) (nI rc') km kl kw kr tc' ts' tl' tm' a1 a2 a3 a4 a5 a6 a7 a8 a9 a10 a11 a12 a13 a14 a15 a16 a17 a18 b a20 a21 a22 a23 a24) :
    ∃ n, wX_closeWindows_26 post J n 0 kd wd 1 lt mk lc (nI nw) (nI rc) km kl kw kr tc ts tl tm a1 a2 a3 a4 a5 a6 a7 a8 a9 a10 a11 a12 a13 a14 a15 a16 a17 a18 a19 a20 a21 a22 a23 a24 := by
  refine pk_loop (σ := Nat × Int32 × Int32 × Int32 × Int32 × (Nat → Int32)) (fun n i s => wX_closeWindows_26 post J n (nI i) kd wd 1 lt mk lc (nI nw) (nI s.1) km kl kw kr s.2.1 s.2.2.1 s.2.2.2.1 s.2.2.2.2.1 a1 a2 a3 a4 a5 a6 a7 a8 a9 a10 a11 a12 a13 a14 a15 a16 a17 a18 s.2.2.2.2.2 a20 a21 a22 a23 a24)
    (fun i s => rc ≤ s.1 ∧ s.1 ≤ rc + i ∧ (∀ j, j < 7 * rc → s.2.2.2.2.2 j = a19 j) ∧ (s.1 ≠ rc → ∃ k, k < 4 ∧ ¬ a8 (64 * k + nw) ≤ 0)) 4 0 (rc, tc, ts, tl, tm, a19) (by omega) ⟨Nat.le_refl _, Nat.le_refl _, fun _ _ => rfl, fun z => absurd rfl z⟩ ?_ ?_
  · rintro n ⟨rc', tc', ts', tl', tm', b⟩ ⟨h1, h2, h3, h4⟩
    exact pk_le 4 4 (fun _ => nm_r (nI_1 nw) (H rc' tc' ts' tl' tm' b h1 h2 h3 h4)) (fun z => absurd z (by omega))
  · rintro n i ⟨rc', tc', ts', tl', tm', b⟩ hi ⟨h1, h2, h3, h4⟩ ih
    dsimp only at h1 h2 h3 h4
    refine pk_le 4 i (fun z => absurd z (by omega)) (fun _ => ?_)
    refine sw_put hw hi (fun z => ?_) (fun z => ?_)
    · exact br_t (by decide) (nm_r (nI_1 i) (ih (rc', 0, 0, 0, 0, b) ⟨h1, Nat.le_succ_of_le h2, h3, h4⟩))
    · refine br_f (fun y => z (by rw [Int32.zero_add] at y; exact y)) ?_
      refine sw_endO (sw_addR (rc := rc') (by omega) (fun b' hb => ?_))
      refine nm_r (nI_1 i) (ih (rc' + 1, 0 + a8 (64 * i + nw), 0 + a9 (64 * i + nw), a10 (64 * i + nw), a11 (64 * i + nw), b') ⟨Nat.le_succ_of_le h1, Nat.succ_le_succ h2, fun j hj => ?_, fun _ => ⟨i, hi, z⟩⟩)
      exact (hb j (by omega)).trans (h3 j hj)
/-- closeWindows -/
theorem sw_close {post : St2 → Prop} {kd lt lc km kl kw kr tc ts tl tm : Int32} {a1 a2 a3 a4 a5 a6 a7 a8 a9 a10 a11 a12 a13 a14 a15 a16 a17 a18 a19 a20 a21 a22 a23 a24 : Nat → Int32} {st nw rc : Nat} {mk : Int} (hst : 1 ≤ st ∧ st ≤ 8) (hm : -1000 ≤ mk ∧ mk ≤ 63) (hw : nw ≤ 64) (hr : rc ≤ 4 * nw)
    (H : ∀ nw' rc' tc' ts' tl' tm' b, sw_CW st mk nw rc a8 a19 nw' rc' b → post (kd, nI st, 1, lt, sw_i mk, lc, nI nw', nI rc', km, kl, kw, kr, tc', ts', tl', tm', a1, a2, a3, a4, a5, a6, a7, a8, a9, a10, a11, a12, a13, a14, a15, a16, a17, a18, b, a20, a21, a22, a23, a24)) :
    wpX_closeWindows post (kd, nI st, 1, lt, sw_i mk, lc, nI nw, nI rc, km, kl, kw, kr, tc, ts, tl, tm, a1, a2, a3, a4, a5, a6, a7, a8, a9, a10, a11, a12, a13, a14, a15, a16, a17, a18, a19, a20, a21, a22, a23, a24) := by
  refine loop_m (σ := Nat × Nat × Int32 × Int32 × Int32 × Int32 × (Nat → Int32)) (fun n s => wX_closeWindows_0 post n kd (nI st) 1 lt (sw_i mk) lc (nI s.1) (nI s.2.1) km kl kw kr s.2.2.1 s.2.2.2.1 s.2.2.2.2.1 s.2.2.2.2.2.1 a1 a2 a3 a4 a5 a6 a7 a8 a9 a10 a11 a12 a13 a14 a15 a16 a17 a18 s.2.2.2.2.2.2 a20 a21 a22 a23 a24)
    (fun s => sw_CP st mk nw rc a8 a19 s.1 s.2.1 s.2.2.2.2.2.2) (fun s => 64 - s.1) ?_ (nw, rc, tc, ts, tl, tm, a19) (sw_CP0 hw)
  rintro n ⟨nw', rc', tc', ts', tl', tm', b⟩ h ih
  have h' : sw_CP st mk nw rc a8 a19 nw' rc' b := h
  have p1 := h'.1
  have p2 := h'.2.1
  have p5 := h'.2.2.2.2.1
  have E8 : (nw' + 1) * st ≤ 520 := sw_E8 p2 hst.2
  have E1 : nw' + 1 ≤ (nw' + 1) * st := sw_E1 hst.1
  refine pk_le 64 nw' (fun z => H nw' rc' tc' ts' tl' tm' b ⟨h', by omega⟩) (fun z => ?_)
  refine sw_blt mk (((nw' + 1) * st : Nat) : Int) (fun y => H nw' rc' tc' ts' tl' tm' b ⟨h', y⟩) (fun y => ?_) rfl ((sw_end nw' st).trans (sw_iN _))
  refine sw_cl26 (nw := nw') (rc := rc') z (by omega) (fun rc2 tc2 ts2 tl2 tm2 b2 q1 q2 q3 q4 => ?_)
  exact ih (nw' + 1, rc2, tc2, ts2, tl2, tm2, b2) (sw_CPs h' z y q1 q2 q3 q4) (show 64 - (nw' + 1) < 64 - nw' by omega)
end
section
/-- lookAtMark: one source -/
theorem sw_lmS {post : Int32 → St2 → Prop} {st lt lc nw rc : Nat} {mk : Int} {km kl kw kr tc ts tl tm : Int32} {a1 a2 a3 a4 a5 a6 a7 a8 a9 a10 a11 a12 a13 a14 a15 a16 a17 a18 a19 a20 a21 a22 a23 a24 : Nat → Int32} {n i : Nat} {g x : Int} (hi : i < 3) (hl : lt ≤ 20) (hg : a6 i = sw_i g) (hgb : -1000 ≤ g ∧ g ≤ 63) (hx : -1020 ≤ x ∧ x ≤ 1000)
    (H : wX_lookAtMark_6 post 0 (nI st) 1 (nI lt) (sw_i mk) (nI lc) (nI nw) (nI rc) km kl kw kr tc ts tl tm a1 a2 a3 a4 a5 a6 a7 a8 a9 a10 a11 a12 a13 a14 a15 a16 a17 a18 a19 a20 a21 a22 a23 a24 n (sw_i (sw_lst lt (a7 i) g x)) (nI (i + 1))) :
    wX_lookAtMark_6 post 0 (nI st) 1 (nI lt) (sw_i mk) (nI lc) (nI nw) (nI rc) km kl kw kr tc ts tl tm a1 a2 a3 a4 a5 a6 a7 a8 a9 a10 a11 a12 a13 a14 a15 a16 a17 a18 a19 a20 a21 a22 a23 a24 (n + 1) (sw_i x) (nI i) := by
  have ci : (nI i).toNatClampNeg = i := nI_clamp (by omega)
  have hob := sw_ownB hl hgb
  have key : ∀ z : Int32, z = sw_i (sw_own lt g) → wX_lookAtMark_40 post (wX_lookAtMark_6 post 0 (nI st) 1 (nI lt) (sw_i mk) (nI lc) (nI nw) (nI rc) km kl kw kr tc ts tl tm a1 a2 a3 a4 a5 a6 a7 a8 a9 a10 a11 a12 a13 a14 a15 a16 a17 a18 a19 a20 a21 a22 a23 a24 n) (sw_i x) (nI i) z 0 (nI st) 1 (nI lt) (sw_i mk) (nI lc) (nI nw) (nI rc) km kl kw kr tc ts tl tm a1 a2 a3 a4 a5 a6 a7 a8 a9 a10 a11 a12 a13 a14 a15 a16 a17 a18 a19 a20 a21 a22 a23 a24 := by
    intro z hz
    subst hz
    refine ⟨pk_in i 3 hi, br_c (fun d => ?_) (fun d => ?_)⟩
    · rw [ci] at d
      refine sw_ble x (sw_own lt g) (fun y => nm_r (nI_1 i) ?_) (fun y => nm_r (nI_1 i) ?_)
      · have e : sw_lst lt (a7 i) g x = x := by rw [sw_lst, if_pos d, if_pos y]
        rw [e] at H
        exact H
      · have e : sw_lst lt (a7 i) g x = sw_own lt g := by rw [sw_lst, if_pos d, if_neg (by omega)]
        rw [e] at H
        exact H
    · rw [ci] at d
      have e : sw_lst lt (a7 i) g x = x := by rw [sw_lst, if_neg d]
      rw [e] at H
      exact nm_r (nI_1 i) H
  refine pk_le 3 i (fun z => absurd z (by omega)) (fun _ => ⟨pk_in i 3 hi, ?_⟩)
  refine sw_beq g (-1000) (fun y => key _ ?_) (fun y => ⟨pk_in i 3 hi, key _ ?_⟩) (by rw [ci, hg]) sw_m1000.symm
  · rw [sw_own, if_pos y, sw_m1000]
  · rw [ci, hg, sw_subN, sw_own, if_neg y]
/-- lookAtMark: behind the sources -/
theorem sw_lmE {post : Int32 → St2 → Prop} {st lt lc nw rc : Nat} {mk : Int} {km kl kw kr tc ts tl tm : Int32} {a1 a2 a3 a4 a5 a6 a7 a8 a9 a10 a11 a12 a13 a14 a15 a16 a17 a18 a19 a20 a21 a22 a23 a24 : Nat → Int32} {n : Nat} {x mk2 : Int} (hx : -1020 ≤ x ∧ x ≤ 1000) (hm : -1000 ≤ mk ∧ mk ≤ 63) (e : (if 1000 ≤ x then mk else if x ≤ mk then mk else x) = mk2)
    (H : wX_lookAtMark_91 post (sw_i mk2) 0 (nI st) 1 (nI lt) (sw_i mk) (nI lc) (nI nw) (nI rc) km kl kw kr tc ts tl tm a1 a2 a3 a4 a5 a6 a7 a8 a9 a10 a11 a12 a13 a14 a15 a16 a17 a18 a19 a20 a21 a22 a23 a24) : wX_lookAtMark_6 post 0 (nI st) 1 (nI lt) (sw_i mk) (nI lc) (nI nw) (nI rc) km kl kw kr tc ts tl tm a1 a2 a3 a4 a5 a6 a7 a8 a9 a10 a11 a12 a13 a14 a15 a16 a17 a18 a19 a20 a21 a22 a23 a24 (n + 1) (sw_i x) (nI 3) := by
  refine pk_le 3 3 (fun _ => sw_ble 1000 x (fun y => ?_) (fun y => sw_ble x mk (fun z => ?_) (fun z => ?_)) sw_1000.symm) (fun z => absurd z (by omega))
  · rw [if_pos y] at e
    subst e
    exact H
  · rw [if_neg (by omega), if_pos z] at e
    subst e
    exact H
  · rw [if_neg (by omega), if_neg (by omega)] at e
    subst e
    exact H
theorem sw_lm91 {post : Int32 → St2 → Prop} {st lt lc nw rc : Nat} {mk : Int} {km kl kw kr tc ts tl tm : Int32} {a1 a2 a3 a4 a5 a6 a7 a8 a9 a10 a11 a12 a13 a14 a15 a16 a17 a18 a19 a20 a21 a22 a23 a24 : Nat → Int32} {mk2 : Int} (hst : 1 ≤ st ∧ st ≤ 8) (hm2 : -1000 ≤ mk2 ∧ mk2 ≤ 63) (hw : nw ≤ 64) (hr : rc ≤ 4 * nw)
    (H : ∀ nw' rc' tc' ts' tl' tm' b, sw_CW st mk2 nw rc a8 a19 nw' rc' b → post (nI (rc' - rc)) (0, nI st, 1, nI lt, sw_i mk2, nI lc, nI nw', nI rc', km, kl, kw, kr, tc', ts', tl', tm', a1, a2, a3, a4, a5, a6, a7, a8, a9, a10, a11, a12, a13, a14, a15, a16, a17, a18, b, a20, a21, a22, a23, a24)) :
    wX_lookAtMark_91 post (sw_i mk2) 0 (nI st) 1 (nI lt) (sw_i mk) (nI lc) (nI nw) (nI rc) km kl kw kr tc ts tl tm a1 a2 a3 a4 a5 a6 a7 a8 a9 a10 a11 a12 a13 a14 a15 a16 a17 a18 a19 a20 a21 a22 a23 a24 := by
  refine br_f (by decide) (sw_close hst hm2 hw hr (fun nw' rc' tc' ts' tl' tm' b h => ?_))
  have e : nI rc' - nI rc = nI (rc' - rc) := pk_sub h.1.2.2.2.1
  have H' := H nw' rc' tc' ts' tl' tm' b h
  rw [← e] at H'
  exact H'
/-- lookAtMark -/
theorem sw_look {post : Int32 → St2 → Prop} {st lt lc nw rc : Nat} {mk : Int} {km kl kw kr tc ts tl tm : Int32} {a1 a2 a3 a4 a5 a6 a7 a8 a9 a10 a11 a12 a13 a14 a15 a16 a17 a18 a19 a20 a21 a22 a23 a24 : Nat → Int32} {mk2 : Int} {g : Nat → Int} (hst : 1 ≤ st ∧ st ≤ 8) (hl : lt ≤ 20) (hm : -1000 ≤ mk ∧ mk ≤ 63) (hw : nw ≤ 64) (hr : rc ≤ 4 * nw)
    (hg : ∀ i, i < 3 → a6 i = sw_i (g i)) (hgb : ∀ i, i < 3 → -1000 ≤ g i ∧ g i ≤ 63) (e : sw_nm lt mk (g 0) (g 1) (g 2) (a7 0) (a7 1) (a7 2) = mk2)
    (H : ∀ nw' rc' tc' ts' tl' tm' b, sw_CW st mk2 nw rc a8 a19 nw' rc' b → post (nI (rc' - rc)) (0, nI st, 1, nI lt, sw_i mk2, nI lc, nI nw', nI rc', km, kl, kw, kr, tc', ts', tl', tm', a1, a2, a3, a4, a5, a6, a7, a8, a9, a10, a11, a12, a13, a14, a15, a16, a17, a18, b, a20, a21, a22, a23, a24)) :
    wpX_lookAtMark post (0, nI st, 1, nI lt, sw_i mk, nI lc, nI nw, nI rc, km, kl, kw, kr, tc, ts, tl, tm, a1, a2, a3, a4, a5, a6, a7, a8, a9, a10, a11, a12, a13, a14, a15, a16, a17, a18, a19, a20, a21, a22, a23, a24) := by
  have b0 := hgb 0 (by omega)
  have b1 := hgb 1 (by omega)
  have b2 := hgb 2 (by omega)
  have l0 := sw_lstB (d := a7 0) (x := 1000) hl b0 (by omega)
  have l1 := sw_lstB (d := a7 1) hl b1 l0
  have l2 := sw_lstB (d := a7 2) hl b2 l1
  have p0 : -1020 ≤ sw_lst lt (a7 0) (g 0) 1000 ∧ sw_lst lt (a7 0) (g 0) 1000 ≤ 1000 := by omega
  have p1 : -1020 ≤ sw_lst lt (a7 1) (g 1) (sw_lst lt (a7 0) (g 0) 1000) ∧ sw_lst lt (a7 1) (g 1) (sw_lst lt (a7 0) (g 0) 1000) ≤ 1000 := by omega
  have p2 : -1020 ≤ sw_lst lt (a7 2) (g 2) (sw_lst lt (a7 1) (g 1) (sw_lst lt (a7 0) (g 0) 1000)) ∧ sw_lst lt (a7 2) (g 2) (sw_lst lt (a7 1) (g 1) (sw_lst lt (a7 0) (g 0) 1000)) ≤ 1000 := by omega
  have hm2 : -1000 ≤ mk2 ∧ mk2 ≤ 63 := by
    rw [← e]
    exact sw_nmB hl hm b0 b1 b2
  have h : wX_lookAtMark_6 post 0 (nI st) 1 (nI lt) (sw_i mk) (nI lc) (nI nw) (nI rc) km kl kw kr tc ts tl tm a1 a2 a3 a4 a5 a6 a7 a8 a9 a10 a11 a12 a13 a14 a15 a16 a17 a18 a19 a20 a21 a22 a23 a24 (0 + 1 + 1 + 1 + 1) (sw_i 1000) (nI 0) :=
    sw_lmS (by omega) hl (hg 0 (by omega)) b0 (by omega) (sw_lmS (by omega) hl (hg 1 (by omega)) b1 p0 (sw_lmS (by omega) hl (hg 2 (by omega)) b2 p1
      (sw_lmE p2 hm e (sw_lm91 hst hm2 hw hr H))))
  rw [sw_1000] at h
  exact ⟨_, h⟩
/-- takeIntoPane -/
theorem sw_take {post : St2 → Prop} {st lt lc nw rc : Nat} {mk : Int} {km kl kw kr tc ts tl tm : Int32} {a1 a2 a3 a4 a5 a6 a7 a8 a9 a10 a11 a12 a13 a14 a15 a16 a17 a18 a19 a20 a21 a22 a23 a24 : Nat → Int32} {t k : Nat} {v : Int32} (hst : 1 ≤ st ∧ st ≤ 8) (hm : -1000 ≤ mk ∧ mk ≤ 63) (ht : t < 64) (hk : k < 4)
    (H : ∀ lc' a8' a9' a10' a11', sw_TK st mk lc t k v a8 a9 lc' a8' a9' → post (0, nI st, 1, nI lt, sw_i mk, nI lc', nI nw, nI rc, km, kl, kw, kr, tc, ts, tl, tm, a1, a2, a3, a4, a5, a6, a7, a8', a9', a10', a11', a12, a13, a14, a15, a16, a17, a18, a19, a20, a21, a22, a23, a24)) :
    wpX_takeIntoPane post (0, nI st, 1, nI lt, sw_i mk, nI lc, nI nw, nI rc, km, kl, kw, kr, tc, ts, tl, tm, a1, a2, a3, a4, a5, a6, a7, a8, a9, a10, a11, a12, a13, a14, a15, a16, a17, a18, a19, a20, a21, a22, a23, a24) (nI t) (nI k) v := by
  have hd : t / st < 64 := sw_dlt ht
  have cq : (nI (64 * k + t / st)).toNatClampNeg = 64 * k + t / st := nI_clamp (by omega)
  have hi : vp_in (nI (64 * k + t / st)) 256 := pk_in (64 * k + t / st) 256 (by omega)
  have E8 : (t / st + 1) * st ≤ 520 := sw_E8 (by omega) hst.2
  refine ⟨nI_ne0 hst.1 (by omega), nm_r (pk_div (by omega) hst.1 (by omega)) ?_⟩
  refine sw_blt mk (((t / st + 1) * st : Nat) : Int) (fun y => ?_) (fun y => nm_r (nI_1 lc) (H (lc + 1) a8 a9 a10 a11 (Or.inr ⟨y, rfl, rfl, rfl⟩))) rfl ((sw_end _ _).trans (sw_iN _))
  have K118 : ∀ (z0 : Int32) (c : Nat → Int32), wX_takeIntoPane_118 post v (nI (64 * k + t / st)) z0 (nI (64 * k + t / st)) 0 (nI st) 1 (nI lt) (sw_i mk) (nI lc) (nI nw) (nI rc) km kl kw kr tc ts tl tm a1 a2 a3 a4 a5 a6 a7 a8 a9 c a11 a12 a13 a14 a15 a16 a17 a18 a19 a20 a21 a22 a23 a24 := by
    intro z0 c
    exact ⟨hi, nm_e ⟨hi, hi, nm_r (e' := upd a8 (64 * k + t / st) (a8 (64 * k + t / st) + 1)) (by rw [cq]) ⟨hi, hi, nm_r (e' := upd a9 (64 * k + t / st) (a9 (64 * k + t / st) + v)) (by rw [cq]) (H lc _ _ c _ (Or.inl ⟨y, rfl, rfl, rfl⟩))⟩⟩⟩
  have K79 : ∀ z0 : Int32, wX_takeIntoPane_79 post v (nI (64 * k + t / st)) z0 (nI (64 * k + t / st)) 0 (nI st) 1 (nI lt) (sw_i mk) (nI lc) (nI nw) (nI rc) km kl kw kr tc ts tl tm a1 a2 a3 a4 a5 a6 a7 a8 a9 a10 a11 a12 a13 a14 a15 a16 a17 a18 a19 a20 a21 a22 a23 a24 := by
    intro z0
    exact ⟨hi, nm_e ⟨hi, br_c (fun _ => K118 v _) (fun _ => ⟨hi, br_c (fun _ => ⟨hi, K118 _ _⟩) (fun _ => K118 v _)⟩)⟩⟩
  exact nm_r (sw_at k (t / st)) ⟨hi, br_c (fun _ => K79 v) (fun _ => ⟨hi, br_c (fun _ => ⟨hi, K79 _⟩) (fun _ => K79 v)⟩)⟩
/-- the greatest times when source s has read time t -/
def sw_up (g : Nat → Int) (s : Nat) (t : Int) : Nat → Int := fun i => if i = s then (if t ≤ g s then g s else t) else g i
theorem sw_upS {g : Nat → Int} {s : Nat} {t : Int} : sw_up g s t s = if t ≤ g s then g s else t := if_pos rfl
theorem sw_upN {g : Nat → Int} {s i : Nat} {t : Int} (h : i ≠ s) : sw_up g s t i = g i := if_neg h
/-- readOne -/
theorem sw_readOne {post : Int32 → St2 → Prop} {st lt lc nw rc : Nat} {mk : Int} {km kl kw kr tc ts tl tm : Int32} {a1 a2 a3 a4 a5 a6 a7 a8 a9 a10 a11 a12 a13 a14 a15 a16 a17 a18 a19 a20 a21 a22 a23 a24 : Nat → Int32} {s p t k : Nat} {mk2 : Int} {g : Nat → Int} (hs : s < 3) (hst : 1 ≤ st ∧ st ≤ 8) (hl : lt ≤ 20) (hm : -1000 ≤ mk ∧ mk ≤ 63) (hw : nw ≤ 64) (hr : rc ≤ 4 * nw)
    (hp : a5 s = nI p) (hp2 : p < 20) (ht : a2 (20 * s + p) = nI t) (ht2 : t < 64) (hk : a3 (20 * s + p) = nI k) (hk2 : k < 4)
    (hg : ∀ i, i < 3 → a6 i = sw_i (g i)) (hgb : ∀ i, i < 3 → -1000 ≤ g i ∧ g i ≤ 63) (e : sw_nm lt mk (sw_up g s t 0) (sw_up g s t 1) (sw_up g s t 2) (a7 0) (a7 1) (a7 2) = mk2)
    (H : ∀ lc' nw' rc' tc' ts' tl' tm' a8' a9' a10' a11' b, sw_TK st mk lc t k (a4 (20 * s + p)) a8 a9 lc' a8' a9' → sw_CW st mk2 nw rc a8' a19 nw' rc' b →
      post (nI (rc' - rc)) (0, nI st, 1, nI lt, sw_i mk2, nI lc', nI nw', nI rc', km, kl, kw, kr, tc', ts', tl', tm', a1, a2, a3, a4, upd a5 s (nI (p + 1)), upd a6 s (sw_i (sw_up g s t s)), a7, a8', a9', a10', a11', a12, a13, a14, a15, a16, a17, a18, b, a20, a21, a22, a23, a24)) :
    wpX_readOne post (0, nI st, 1, nI lt, sw_i mk, nI lc, nI nw, nI rc, km, kl, kw, kr, tc, ts, tl, tm, a1, a2, a3, a4, a5, a6, a7, a8, a9, a10, a11, a12, a13, a14, a15, a16, a17, a18, a19, a20, a21, a22, a23, a24) (nI s) := by
  have cs : (nI s).toNatClampNeg = s := nI_clamp (by omega)
  have ca : (nI (20 * s + p)).toNatClampNeg = 20 * s + p := nI_clamp (by omega)
  have hi : vp_in (nI s) 3 := pk_in s 3 hs
  have ha : vp_in (nI (20 * s + p)) 60 := pk_in (20 * s + p) 60 (by omega)
  have bs := hgb s hs
  have hg' : ∀ i, i < 3 → upd a6 s (sw_i (sw_up g s t s)) i = sw_i (sw_up g s t i) := by
    intro i hi
    by_cases z : i = s
    · rw [z, pk_us]
    · rw [pk_un z, sw_upN z, hg i hi]
  have hgb' : ∀ i, i < 3 → -1000 ≤ sw_up g s t i ∧ sw_up g s t i ≤ 63 := by
    intro i hi
    by_cases z : i = s
    · rw [z, sw_upS]
      split <;> omega
    · rw [sw_upN z]
      exact hgb i hi
  have K : ∀ z : Int32, z = sw_i (sw_up g s t s) → wX_readOne_54 post (nI (20 * s + p)) (nI t) z (nI s) 0 (nI st) 1 (nI lt) (sw_i mk) (nI lc) (nI nw) (nI rc) km kl kw kr tc ts tl tm a1 a2 a3 a4 (upd a5 s (nI (p + 1))) a6 a7 a8 a9 a10 a11 a12 a13 a14 a15 a16 a17 a18 a19 a20 a21 a22 a23 a24 := by
    intro z hz
    subst hz
    refine ⟨hi, nm_r (e' := upd a6 s (sw_i (sw_up g s t s))) (by rw [cs]) (br_f (by decide) ⟨ha, ha, ?_⟩)⟩
    rw [ca, hk]
    refine sw_take hst hm ht2 hk2 (fun lc' a8' a9' a10' a11' hT => ?_)
    exact sw_look hst hl hm hw hr hg' hgb' e (fun nw' rc' tc' ts' tl' tm' b hC => H lc' nw' rc' tc' ts' tl' tm' a8' a9' a10' a11' b hT hC)
  refine ⟨hi, nm_r (e' := nI (20 * s + p)) (by rw [cs, hp]; exact sw_at20 s p) ⟨hi, hi, nm_r (e' := upd a5 s (nI (p + 1))) (by rw [cs, hp, nI_1]) ⟨ha, nm_r (e' := nI t) (by rw [ca, ht]) ⟨hi, ?_⟩⟩⟩⟩
  refine sw_ble (t : Int) (g s) (fun y => ⟨hi, K _ ?_⟩) (fun y => K _ ?_) (sw_iN t) (by rw [cs, hg s hs])
  · rw [cs, hg s hs, sw_upS, if_pos y]
  · rw [sw_upS, if_neg (by omega), sw_iN]
/-- read, where the source has an event more -/
theorem sw_read {post : Int32 → St2 → Prop} {st lt lc nw rc : Nat} {mk : Int} {km kl kw kr tc ts tl tm : Int32} {a1 a2 a3 a4 a5 a6 a7 a8 a9 a10 a11 a12 a13 a14 a15 a16 a17 a18 a19 a20 a21 a22 a23 a24 : Nat → Int32} {s p c t k : Nat} {mk2 : Int} {g : Nat → Int} (hs : s < 3) (hst : 1 ≤ st ∧ st ≤ 8) (hl : lt ≤ 20) (hm : -1000 ≤ mk ∧ mk ≤ 63) (hw : nw ≤ 64) (hr : rc ≤ 4 * nw)
    (hc : a1 s = nI c) (hp : a5 s = nI p) (hpc : p < c) (hc2 : c ≤ 20) (ht : a2 (20 * s + p) = nI t) (ht2 : t < 64) (hk : a3 (20 * s + p) = nI k) (hk2 : k < 4)
    (hg : ∀ i, i < 3 → a6 i = sw_i (g i)) (hgb : ∀ i, i < 3 → -1000 ≤ g i ∧ g i ≤ 63) (e : sw_nm lt mk (sw_up g s t 0) (sw_up g s t 1) (sw_up g s t 2) (a7 0) (a7 1) (a7 2) = mk2)
    (H : ∀ lc' nw' rc' tc' ts' tl' tm' a8' a9' a10' a11' b, sw_TK st mk lc t k (a4 (20 * s + p)) a8 a9 lc' a8' a9' → sw_CW st mk2 nw rc a8' a19 nw' rc' b →
      post (nI (rc' - rc)) (0, nI st, 1, nI lt, sw_i mk2, nI lc', nI nw', nI rc', km, kl, kw, kr, tc', ts', tl', tm', a1, a2, a3, a4, upd a5 s (nI (p + 1)), upd a6 s (sw_i (sw_up g s t s)), a7, a8', a9', a10', a11', a12, a13, a14, a15, a16, a17, a18, b, a20, a21, a22, a23, a24)) :
    wpX_read post (0, nI st, 1, nI lt, sw_i mk, nI lc, nI nw, nI rc, km, kl, kw, kr, tc, ts, tl, tm, a1, a2, a3, a4, a5, a6, a7, a8, a9, a10, a11, a12, a13, a14, a15, a16, a17, a18, a19, a20, a21, a22, a23, a24) (nI s) := by
  have cs : (nI s).toNatClampNeg = s := nI_clamp (by omega)
  have hi : vp_in (nI s) 3 := pk_in s 3 hs
  have hu : a1 (nI s).toNatClampNeg - a5 (nI s).toNatClampNeg = nI (c - p) := by rw [cs, hc, hp, pk_sub (by omega)]
  refine br_f (nI_pos (by omega)) (br_f (nI_ge (b := 3) hs (by decide)) (br_f (by decide) ⟨hi, hi, br_f ?_ ?_⟩))
  · rw [hu]
    exact nI_ne0 (by omega) (by omega)
  · exact sw_readOne hs hst hl hm hw hr hp (by omega) ht ht2 hk hk2 hg hgb e H
/-- idle -/
theorem sw_idle {post : Int32 → St2 → Prop} {st lt lc nw rc : Nat} {mk : Int} {km kl kw kr tc ts tl tm : Int32} {a1 a2 a3 a4 a5 a6 a7 a8 a9 a10 a11 a12 a13 a14 a15 a16 a17 a18 a19 a20 a21 a22 a23 a24 : Nat → Int32} {s : Nat} {d : Int32} {mk2 : Int} {g : Nat → Int} (hd : vp_nar .boolean d = d) (hs : s < 3) (hst : 1 ≤ st ∧ st ≤ 8) (hl : lt ≤ 20) (hm : -1000 ≤ mk ∧ mk ≤ 63) (hw : nw ≤ 64) (hr : rc ≤ 4 * nw)
    (hg : ∀ i, i < 3 → a6 i = sw_i (g i)) (hgb : ∀ i, i < 3 → -1000 ≤ g i ∧ g i ≤ 63) (e : sw_nm lt mk (g 0) (g 1) (g 2) (upd a7 s d 0) (upd a7 s d 1) (upd a7 s d 2) = mk2)
    (H : ∀ nw' rc' tc' ts' tl' tm' b, sw_CW st mk2 nw rc a8 a19 nw' rc' b → post (nI (rc' - rc)) (0, nI st, 1, nI lt, sw_i mk2, nI lc, nI nw', nI rc', km, kl, kw, kr, tc', ts', tl', tm', a1, a2, a3, a4, a5, a6, upd a7 s d, a8, a9, a10, a11, a12, a13, a14, a15, a16, a17, a18, b, a20, a21, a22, a23, a24)) :
    wpX_idle post (0, nI st, 1, nI lt, sw_i mk, nI lc, nI nw, nI rc, km, kl, kw, kr, tc, ts, tl, tm, a1, a2, a3, a4, a5, a6, a7, a8, a9, a10, a11, a12, a13, a14, a15, a16, a17, a18, a19, a20, a21, a22, a23, a24) (nI s) d := by
  have cs : (nI s).toNatClampNeg = s := nI_clamp (by omega)
  have hi : vp_in (nI s) 3 := pk_in s 3 hs
  refine br_f (nI_pos (by omega)) (br_f (nI_ge (b := 3) hs (by decide)) (br_f (by decide) ⟨hi, nm_r (e' := upd a7 s d) (by rw [cs, hd]) ?_⟩))
  exact sw_look hst hl hm hw hr hg hgb e H
theorem sw_nar1 : vp_nar .boolean 1 = 1 := by rfl
theorem sw_nar0 : vp_nar .boolean 0 = 0 := by rfl
theorem sw_least {post : Int32 → Prop} {u : St0} (a b : Nat) (ha : a < 1000) (hb : b < 1000) (H : post (nI (min a b))) : wpL_least post u (nI a) (nI b) := by
  refine pk_le b a (fun z => ?_) (fun z => ?_)
  · rw [Nat.min_eq_right z] at H
    exact H
  · rw [Nat.min_eq_left (Nat.le_of_lt z)] at H
    exact H
/-- position -/
theorem sw_pos {post : Int32 → Prop} {kd wd pn lt mk lc nw rc km kl kw kr tc ts tl tm : Int32} {a1 a2 a3 a4 a5 a6 a7 a8 a9 a10 a11 a12 a13 a14 a15 a16 a17 a18 a19 a20 a21 a22 a23 a24 : Nat → Int32} {s : Nat} (hs : s < 3) (H : post (a5 s)) : wpX_position post (kd, wd, pn, lt, mk, lc, nw, rc, km, kl, kw, kr, tc, ts, tl, tm, a1, a2, a3, a4, a5, a6, a7, a8, a9, a10, a11, a12, a13, a14, a15, a16, a17, a18, a19, a20, a21, a22, a23, a24) (nI s) := by
  have cs : (nI s).toNatClampNeg = s := nI_clamp (by omega)
  refine br_f (nI_pos (by omega)) (br_f (nI_ge (b := 3) hs (by decide)) (br_f (by decide) ⟨pk_in s 3 hs, ?_⟩))
  rw [cs]
  exact H
end
section
theorem sw_ma (c i d : Nat) : Int32.ofNat c * nI i + Int32.ofNat d = nI (c * i + d) := by rw [sw_mulL, sw_addL]
theorem sw_am (c i : Nat) : Int32.ofNat c + nI i = nI (c + i) := nI_add c i
/-- arrive, where there is room: source s, key k, time t -/
theorem sw_arrive {post : Int32 → St2 → Prop} {kd wd pn lt mk lc nw rc km kl kw kr tc ts tl tm : Int32} {a1 a2 a3 a4 a5 a6 a7 a8 a9 a10 a11 a12 a13 a14 a15 a16 a17 a18 a19 a20 a21 a22 a23 a24 : Nat → Int32} {s t k c : Nat} {x v : Int32} (hs : s < 3) (ht : t < 64) (hk : k < 4) (hx : x = nI (256 * s + 64 * k + t)) (hc : a1 s = nI c) (hc2 : c < 20) (hv1 : ¬ v < (-50)) (hv2 : v ≤ 50)
    (H : ∀ r, post r (kd, wd, pn, lt, mk, lc, nw, rc, km, kl, kw, kr, tc, ts, tl, tm, upd a1 s (nI (c + 1)), upd a2 (20 * s + c) (nI t), upd a3 (20 * s + c) (nI k), upd a4 (20 * s + c) v, a5, a6, a7, a8, a9, a10, a11, a12, a13, a14, a15, a16, a17, a18, a19, a20, a21, a22, a23, a24)) :
    wpX_arrive post (kd, wd, pn, lt, mk, lc, nw, rc, km, kl, kw, kr, tc, ts, tl, tm, a1, a2, a3, a4, a5, a6, a7, a8, a9, a10, a11, a12, a13, a14, a15, a16, a17, a18, a19, a20, a21, a22, a23, a24) x v := by
  subst hx
  have cs : (nI s).toNatClampNeg = s := nI_clamp (by omega)
  have ca : (nI (20 * s + c)).toNatClampNeg = 20 * s + c := nI_clamp (by omega)
  have hi : vp_in (nI s) 3 := pk_in s 3 hs
  have ha : vp_in (nI (20 * s + c)) 60 := pk_in (20 * s + c) 60 (by omega)
  have e1 : nI (256 * s + 64 * k + t) / 256 = nI s := by
    have h : nI (256 * s + 64 * k + t) / nI 256 = nI ((256 * s + 64 * k + t) / 256) := pk_div (by omega) (by omega) (by omega)
    rw [show (256 * s + 64 * k + t) / 256 = s by omega] at h
    exact h
  have e2 : nI (256 * s + 64 * k + t) - nI (256 * s + 64 * k + t) / 64 * 64 = nI t := by
    have h : nI (256 * s + 64 * k + t) - nI (256 * s + 64 * k + t) / nI 64 * nI 64 = nI ((256 * s + 64 * k + t) % 64) := pk_rem (by omega) (by omega) (by omega)
    rw [show (256 * s + 64 * k + t) % 64 = t by omega] at h
    exact h
  have e3 : nI (256 * s + 64 * k + t) / 64 - nI (256 * s + 64 * k + t) / 64 / 4 * 4 = nI k := by
    have h : nI (256 * s + 64 * k + t) / nI 64 = nI ((256 * s + 64 * k + t) / 64) := pk_div (by omega) (by omega) (by omega)
    have h' : nI (256 * s + 64 * k + t) / 64 = nI (4 * s + k) := by
      rw [show (256 * s + 64 * k + t) / 64 = 4 * s + k by omega] at h
      exact h
    have h2 : nI (4 * s + k) - nI (4 * s + k) / nI 4 * nI 4 = nI ((4 * s + k) % 4) := pk_rem (by omega) (by omega) (by omega)
    rw [show (4 * s + k) % 4 = k by omega] at h2
    rw [h']
    exact h2
  refine br_f (nI_pos (by omega)) (br_f (nI_ge (b := 768) (by omega) (by decide)) (br_f hv1 (br_t hv2 ⟨by decide, nm_r e1 ⟨hi, br_t ?_ ⟨hi, nm_r (e' := nI (20 * s + c)) ?_ ⟨by decide, ha, nm_r (e' := upd a2 (20 * s + c) (nI t)) ?_ ⟨by decide, by decide, ha, nm_r (e' := upd a3 (20 * s + c) (nI k)) ?_ ⟨ha, nm_r (e' := upd a4 (20 * s + c) v) ?_ ⟨hi, hi, nm_r (e' := upd a1 s (nI (c + 1))) ?_ ⟨hi, H _⟩⟩⟩⟩⟩⟩⟩⟩)))
  · rw [cs, hc]
    exact nI_lt (b := 20) hc2 (by decide)
  · rw [cs, hc, sw_at20]
  · rw [ca, e2]
  · rw [ca, e3]
  · rw [ca]
  · rw [cs, hc, nI_1]
/-- how many of the windows nw .. i - 1 are window q -/
def sw_c (nw q i : Nat) : Nat := if nw ≤ q ∧ q < i then 1 else 0
/-- open, where the key's panes hold something in window q alone -/
theorem sw_open {post : Int32 → St2 → Prop} {st lt lc nw rc : Nat} {mk : Int} {km kl kw kr tc ts tl tm : Int32} {a1 a2 a3 a4 a5 a6 a7 a8 a9 a10 a11 a12 a13 a14 a15 a16 a17 a18 a19 a20 a21 a22 a23 a24 : Nat → Int32} {k q : Nat} (hk : k < 4) (hw : nw ≤ 64) (hq : ∀ w, nw ≤ w → w < 64 → (a8 (64 * k + w) ≤ 0 ↔ w ≠ q))
    (H : ∀ tc' ts' tl' tm', post (nI (sw_c nw q 64)) (0, nI st, 1, nI lt, sw_i mk, nI lc, nI nw, nI rc, km, kl, kw, kr, tc', ts', tl', tm', a1, a2, a3, a4, a5, a6, a7, a8, a9, a10, a11, a12, a13, a14, a15, a16, a17, a18, a19, a20, a21, a22, a23, a24)) : wpX_open post (0, nI st, 1, nI lt, sw_i mk, nI lc, nI nw, nI rc, km, kl, kw, kr, tc, ts, tl, tm, a1, a2, a3, a4, a5, a6, a7, a8, a9, a10, a11, a12, a13, a14, a15, a16, a17, a18, a19, a20, a21, a22, a23, a24) (nI k) := by
  refine br_f (nI_pos (by omega)) (br_f (nI_ge (b := 4) hk (by decide)) (br_f (by decide) (br_f (by decide) ?_)))
  have h : ∃ n, wX_open_33 post (nI k) n (nI (sw_c nw q nw)) (nI nw) 0 (nI st) 1 (nI lt) (sw_i mk) (nI lc) (nI nw) (nI rc) km kl kw kr tc ts tl tm a1 a2 a3 a4 a5 a6 a7 a8 a9 a10 a11 a12 a13 a14 a15 a16 a17 a18 a19 a20 a21 a22 a23 a24 := by
    refine pk_loop (σ := Int32 × Int32 × Int32 × Int32) (fun n i s => wX_open_33 post (nI k) n (nI (sw_c nw q i)) (nI i) 0 (nI st) 1 (nI lt) (sw_i mk) (nI lc) (nI nw) (nI rc) km kl kw kr s.1 s.2.1 s.2.2.1 s.2.2.2 a1 a2 a3 a4 a5 a6 a7 a8 a9 a10 a11 a12 a13 a14 a15 a16 a17 a18 a19 a20 a21 a22 a23 a24)
      (fun i _ => nw ≤ i) 64 nw (tc, ts, tl, tm) hw (Nat.le_refl _) ?_ ?_
    · rintro n ⟨tc', ts', tl', tm'⟩ _
      exact pk_le 64 64 (fun _ => H tc' ts' tl' tm') (fun z => absurd z (by omega))
    · rintro n i ⟨tc', ts', tl', tm'⟩ hi hn ih
      refine pk_le 64 i (fun z => absurd z (by omega)) (fun _ => ?_)
      refine sw_put hi hk (fun z => ?_) (fun z => ?_)
      · have e : sw_c nw q (i + 1) = sw_c nw q i := by
          have h1 := (hq i hn hi).mp z
          unfold sw_c
          split <;> split <;> omega
        have h2 := ih (0, 0, 0, 0) (Nat.le_succ_of_le hn)
        rw [e] at h2
        exact br_t (by decide) (nm_r (Int32.add_zero _) (nm_r (nI_1 i) h2))
      · have hiq : i = q := by
          by_cases y : i = q
          · exact y
          · exact absurd ((hq i hn hi).mpr y) z
        have e : sw_c nw q (i + 1) = sw_c nw q i + 1 := by
          unfold sw_c
          split <;> split <;> omega
        have h2 := ih (0 + a8 (64 * k + i), 0 + a9 (64 * k + i), a10 (64 * k + i), a11 (64 * k + i)) (Nat.le_succ_of_le hn)
        rw [e] at h2
        exact br_f (fun y => z (by rw [Int32.zero_add] at y; exact y)) (nm_r (nI_1 _) (nm_r (nI_1 i) h2))
  rw [show sw_c nw q nw = 0 from if_neg (by omega)] at h
  exact h
/-- pending, where the key's first window that holds something is q -/
theorem sw_pend {post : Int32 → St2 → Prop} {st lt lc nw rc : Nat} {mk : Int} {km kl kw kr tc ts tl tm : Int32} {a1 a2 a3 a4 a5 a6 a7 a8 a9 a10 a11 a12 a13 a14 a15 a16 a17 a18 a19 a20 a21 a22 a23 a24 : Nat → Int32} {k q : Nat} (hk : k < 4) (hq1 : nw ≤ q) (hq2 : q < 64) (h0 : ∀ w, nw ≤ w → w < q → a8 (64 * k + w) ≤ 0) (h1 : ¬ a8 (64 * k + q) ≤ 0)
    (H : ∀ tc' ts' tl' tm', post (0 + a9 (64 * k + q)) (0, nI st, 1, nI lt, sw_i mk, nI lc, nI nw, nI rc, km, kl, kw, kr, tc', ts', tl', tm', a1, a2, a3, a4, a5, a6, a7, a8, a9, a10, a11, a12, a13, a14, a15, a16, a17, a18, a19, a20, a21, a22, a23, a24)) : wpX_pending post (0, nI st, 1, nI lt, sw_i mk, nI lc, nI nw, nI rc, km, kl, kw, kr, tc, ts, tl, tm, a1, a2, a3, a4, a5, a6, a7, a8, a9, a10, a11, a12, a13, a14, a15, a16, a17, a18, a19, a20, a21, a22, a23, a24) (nI k) := by
  refine br_f (nI_pos (by omega)) (br_f (nI_ge (b := 4) hk (by decide)) (br_f (by decide) (br_f (by decide) ?_)))
  refine pk_loop (σ := Int32 × Int32 × Int32 × Int32) (fun n i s => wX_pending_45 post (nI k) n (nI i) 0 (nI st) 1 (nI lt) (sw_i mk) (nI lc) (nI nw) (nI rc) km kl kw kr s.1 s.2.1 s.2.2.1 s.2.2.2 a1 a2 a3 a4 a5 a6 a7 a8 a9 a10 a11 a12 a13 a14 a15 a16 a17 a18 a19 a20 a21 a22 a23 a24)
    (fun i _ => nw ≤ i) q nw (tc, ts, tl, tm) hq1 (Nat.le_refl _) ?_ ?_
  · rintro n ⟨tc', ts', tl', tm'⟩ _
    refine pk_le 64 q (fun z => absurd z (by omega)) (fun _ => ?_)
    refine sw_put hq2 hk (fun z => absurd z h1) (fun z => ?_)
    exact br_f (fun y => z (by rw [Int32.zero_add] at y; exact y)) (H _ _ _ _)
  · rintro n i ⟨tc', ts', tl', tm'⟩ hi hn ih
    refine pk_le 64 i (fun z => absurd z (by omega)) (fun _ => ?_)
    refine sw_put (by omega) hk (fun z => ?_) (fun z => absurd (h0 i hn hi) z)
    exact br_t (by decide) (nm_r (nI_1 i) (ih (0, 0, 0, 0) (Nat.le_succ_of_le hn)))
theorem sw_un {a1 a5 : Nat → Int32} {c p : Nat → Nat} {i : Nat} (hc : ∀ i, i < 3 → a1 i = nI (c i)) (hp : ∀ i, i < 3 → a5 i = nI (p i)) (hpc : ∀ i, i < 3 → p i ≤ c i ∧ c i ≤ 20) (hi : i < 3) : a1 (nI i).toNatClampNeg - a5 (nI i).toNatClampNeg = nI (c i - p i) := by
  rw [nI_clamp (by omega), hc i hi, hp i hi, pk_sub (hpc i hi).1]
/-- fullest: one source -/
theorem sw_fuS {post : Int32 → Prop} {kd wd pn lt mk lc nw rc km kl kw kr tc ts tl tm : Int32} {a1 a2 a3 a4 a5 a6 a7 a8 a9 a10 a11 a12 a13 a14 a15 a16 a17 a18 a19 a20 a21 a22 a23 a24 : Nat → Int32} {c p : Nat → Nat} {n b i : Nat} (hc : ∀ i, i < 3 → a1 i = nI (c i)) (hp : ∀ i, i < 3 → a5 i = nI (p i)) (hpc : ∀ i, i < 3 → p i ≤ c i ∧ c i ≤ 20) (hb : b < 3) (hi : i < 3)
    (Ha : c i - p i ≤ c b - p b → wX_fullest_4 post kd wd pn lt mk lc nw rc km kl kw kr tc ts tl tm a1 a2 a3 a4 a5 a6 a7 a8 a9 a10 a11 a12 a13 a14 a15 a16 a17 a18 a19 a20 a21 a22 a23 a24 n (nI b) (nI (i + 1))) (Hb : c b - p b < c i - p i → wX_fullest_4 post kd wd pn lt mk lc nw rc km kl kw kr tc ts tl tm a1 a2 a3 a4 a5 a6 a7 a8 a9 a10 a11 a12 a13 a14 a15 a16 a17 a18 a19 a20 a21 a22 a23 a24 n (nI i) (nI (i + 1))) :
    wX_fullest_4 post kd wd pn lt mk lc nw rc km kl kw kr tc ts tl tm a1 a2 a3 a4 a5 a6 a7 a8 a9 a10 a11 a12 a13 a14 a15 a16 a17 a18 a19 a20 a21 a22 a23 a24 (n + 1) (nI b) (nI i) := by
  have q1 := hpc i hi
  have q2 := hpc b hb
  exact pk_le 3 i (fun z => absurd z (by omega)) (fun _ => ⟨pk_in i 3 hi, pk_in i 3 hi, ⟨pk_in b 3 hb, pk_in b 3 hb, pk_le (c i - p i) (c b - p b) (fun z => nm_r (nI_1 i) (Ha z)) (fun z => nm_r (nI_1 i) (Hb z)) (sw_un hc hp hpc hi) (sw_un hc hp hpc hb)⟩⟩)
theorem sw_fuE {post : Int32 → Prop} {kd wd pn lt mk lc nw rc km kl kw kr tc ts tl tm : Int32} {a1 a2 a3 a4 a5 a6 a7 a8 a9 a10 a11 a12 a13 a14 a15 a16 a17 a18 a19 a20 a21 a22 a23 a24 : Nat → Int32} {n b : Nat} (H : post (nI b)) : wX_fullest_4 post kd wd pn lt mk lc nw rc km kl kw kr tc ts tl tm a1 a2 a3 a4 a5 a6 a7 a8 a9 a10 a11 a12 a13 a14 a15 a16 a17 a18 a19 a20 a21 a22 a23 a24 (n + 1) (nI b) (nI 3) :=
  pk_le 3 3 (fun _ => H) (fun z => absurd z (by omega))
theorem sw_3 {P : Nat → Prop} (h0 : P 0) (h1 : P 1) (h2 : P 2) : ∀ i, i < 3 → P i := by
  intro i hi
  have h : i = 0 ∨ i = 1 ∨ i = 2 := by omega
  rcases h with h | h | h
  · rw [h]; exact h0
  · rw [h]; exact h1
  · rw [h]; exact h2
/-- fullest -/
theorem sw_full {post : Int32 → Prop} {kd wd pn lt mk lc nw rc km kl kw kr tc ts tl tm : Int32} {a1 a2 a3 a4 a5 a6 a7 a8 a9 a10 a11 a12 a13 a14 a15 a16 a17 a18 a19 a20 a21 a22 a23 a24 : Nat → Int32} {c p : Nat → Nat} (hc : ∀ i, i < 3 → a1 i = nI (c i)) (hp : ∀ i, i < 3 → a5 i = nI (p i)) (hpc : ∀ i, i < 3 → p i ≤ c i ∧ c i ≤ 20)
    (H : ∀ s, s < 3 → (∀ i, i < 3 → c i - p i ≤ c s - p s) → post (nI s)) : wpX_fullest post (kd, wd, pn, lt, mk, lc, nw, rc, km, kl, kw, kr, tc, ts, tl, tm, a1, a2, a3, a4, a5, a6, a7, a8, a9, a10, a11, a12, a13, a14, a15, a16, a17, a18, a19, a20, a21, a22, a23, a24) := by
  refine ⟨0 + 1 + 1 + 1, ?_⟩
  refine sw_fuS (b := 0) (i := 1) hc hp hpc (by omega) (by omega) (fun z => ?_) (fun z => ?_)
  · refine sw_fuS (b := 0) (i := 2) hc hp hpc (by omega) (by omega) (fun y => sw_fuE (H 0 (by omega) (sw_3 ?_ ?_ ?_))) (fun y => sw_fuE (H 2 (by omega) (sw_3 ?_ ?_ ?_))) <;> omega
  · refine sw_fuS (b := 1) (i := 2) hc hp hpc (by omega) (by omega) (fun y => sw_fuE (H 1 (by omega) (sw_3 ?_ ?_ ?_))) (fun y => sw_fuE (H 2 (by omega) (sw_3 ?_ ?_ ?_))) <;> omega
/-- readAll, where all is read -/
theorem sw_readAll0 {post : Int32 → St2 → Prop} {kd wd pn lt mk lc nw rc km kl kw kr tc ts tl tm : Int32} {a1 a2 a3 a4 a5 a6 a7 a8 a9 a10 a11 a12 a13 a14 a15 a16 a17 a18 a19 a20 a21 a22 a23 a24 : Nat → Int32} {c : Nat → Nat} (hc : ∀ i, i < 3 → a1 i = nI (c i)) (hp : ∀ i, i < 3 → a5 i = nI (c i)) (hpc : ∀ i, i < 3 → c i ≤ 20) (H : post 0 (kd, wd, pn, lt, mk, lc, nw, rc, km, kl, kw, kr, tc, ts, tl, tm, a1, a2, a3, a4, a5, a6, a7, a8, a9, a10, a11, a12, a13, a14, a15, a16, a17, a18, a19, a20, a21, a22, a23, a24)) : wpX_readAll post (kd, wd, pn, lt, mk, lc, nw, rc, km, kl, kw, kr, tc, ts, tl, tm, a1, a2, a3, a4, a5, a6, a7, a8, a9, a10, a11, a12, a13, a14, a15, a16, a17, a18, a19, a20, a21, a22, a23, a24) := by
  have hpc' : ∀ i, i < 3 → c i ≤ c i ∧ c i ≤ 20 := fun i hi => ⟨Nat.le_refl _, hpc i hi⟩
  refine sw_full hc hp hpc' (fun s hs _ => ⟨0 + 1, pk_le 60 0 (fun z => absurd z (by omega)) (fun _ => ⟨pk_in s 3 hs, pk_in s 3 hs, br_t ?_ H⟩)⟩)
  rw [sw_un hc hp hpc' hs, Nat.sub_self]
  decide
end
section
theorem sw_weight {post : Int32 → Prop} {kd wd pn lt mk lc nw rc km kl kw kr tc ts tl tm : Int32} {a1 a2 a3 a4 a5 a6 a7 a8 a9 a10 a11 a12 a13 a14 a15 a16 a17 a18 a19 a20 a21 a22 a23 a24 : Nat → Int32} {m : Nat} (hm : m < 7) (H : post (sw_wt m)) : wpX_weightOf post (kd, wd, pn, lt, mk, lc, nw, rc, km, kl, kw, kr, tc, ts, tl, tm, a1, a2, a3, a4, a5, a6, a7, a8, a9, a10, a11, a12, a13, a14, a15, a16, a17, a18, a19, a20, a21, a22, a23, a24) (nI m) := by
  refine pk_eq m 0 (fun z => ?_) (fun z0 => pk_eq m 1 (fun z => ?_) (fun z1 => pk_eq m 2 (fun z => ?_) (fun z2 => pk_eq m 3 (fun z => ?_) (fun z3 => pk_eq m 4 (fun z => ?_) (fun z4 => pk_eq m 5 (fun z => ?_) (fun z5 => ?_))))))
  · subst z; exact H
  · subst z; exact H
  · subst z; exact H
  · subst z; exact H
  · subst z; exact H
  · subst z; exact H
  · obtain rfl : m = 6 := by omega
    exact H
theorem sw_dig17 {post : Int32 → Prop} {J : Int32 → Int32 → Prop} {kd wd pn lt mk lc nw rc km kl kw kr tc ts tl tm : Int32} {a1 a2 a3 a4 a5 a6 a7 a8 a9 a10 a11 a12 a13 a14 a15 a16 a17 a18 a19 a20 a21 a22 a23 a24 : Nat → Int32} {x : Int32} {i : Nat} (hi : i < 300) (H : J (x + (nI i + 1) * sw_in a19 i 7) (nI (i + 1))) :
    ∃ n, wX_digest_17 post J x (nI i) kd wd pn lt mk lc nw rc km kl kw kr tc ts tl tm a1 a2 a3 a4 a5 a6 a7 a8 a9 a10 a11 a12 a13 a14 a15 a16 a17 a18 a19 a20 a21 a22 a23 a24 n 0 0 := by
  refine pk_loop (σ := Int32) (fun n m s => wX_digest_17 post J x (nI i) kd wd pn lt mk lc nw rc km kl kw kr tc ts tl tm a1 a2 a3 a4 a5 a6 a7 a8 a9 a10 a11 a12 a13 a14 a15 a16 a17 a18 a19 a20 a21 a22 a23 a24 n s (nI m)) (fun m s => s = sw_in a19 i m) 7 0 0 (by omega) rfl ?_ ?_
  · intro n s h
    subst h
    exact pk_le 7 7 (fun _ => nm_e (nm_r (nI_1 i) H)) (fun z => absurd z (by omega))
  · intro n m s hm h ih
    subst h
    refine pk_le 7 m (fun z => absurd z (by omega)) (fun _ => sw_weight hm ⟨pk_in (7 * i + m) 2100 (by omega) (sw_at7 i m), nm_r (e' := sw_in a19 i (m + 1)) ?_ (nm_r (nI_1 m) (ih _ rfl))⟩)
    rw [sw_at7, nI_clamp (by omega)]
    rfl
/-- digest -/
theorem sw_digest {post : Int32 → Prop} {kd wd pn lt mk lc nw km kl kw kr tc ts tl tm : Int32} {a1 a2 a3 a4 a5 a6 a7 a8 a9 a10 a11 a12 a13 a14 a15 a16 a17 a18 a19 a20 a21 a22 a23 a24 : Nat → Int32} {rc : Nat} (hr : rc ≤ 300) (H : post (sw_dg a19 rc)) : wpX_digest post (kd, wd, pn, lt, mk, lc, nw, nI rc, km, kl, kw, kr, tc, ts, tl, tm, a1, a2, a3, a4, a5, a6, a7, a8, a9, a10, a11, a12, a13, a14, a15, a16, a17, a18, a19, a20, a21, a22, a23, a24) := by
  refine pk_loop (σ := Int32) (fun n i s => wX_digest_4 post kd wd pn lt mk lc nw (nI rc) km kl kw kr tc ts tl tm a1 a2 a3 a4 a5 a6 a7 a8 a9 a10 a11 a12 a13 a14 a15 a16 a17 a18 a19 a20 a21 a22 a23 a24 n s (nI i)) (fun i s => s = sw_dg a19 i) rc 0 0 (by omega) rfl ?_ ?_
  · intro n s h
    subst h
    exact pk_le rc rc (fun _ => H) (fun z => absurd z (by omega))
  · intro n i s hi h ih
    subst h
    exact pk_le rc i (fun z => absurd z (by omega)) (fun _ => sw_dig17 (by omega) (ih _ rfl))
/-! keep -/
theorem sw_k275 {post : Int32 → St2 → Prop} {kd wd pn lt mk lc nw rc km kl kw kr tc ts tl tm : Int32} {a1 a2 a3 a4 a5 a6 a7 a8 a9 a10 a11 a12 a13 a14 a15 a16 a17 a18 a19 a20 a21 a22 a23 a24 : Nat → Int32} (H : ∀ c, post kr (kd, wd, pn, lt, mk, lc, nw, rc, km, kl, kw, kr, tc, ts, tl, tm, a1, a2, a3, a4, a5, a6, a7, a8, a9, a10, a11, a12, a13, a14, a15, a16, a17, a18, a19, a20, a21, a22, a23, c)) : ∃ n, wX_keep_275 post kd wd pn lt mk lc nw rc km kl kw kr tc ts tl tm n 0 a1 a2 a3 a4 a5 a6 a7 a8 a9 a10 a11 a12 a13 a14 a15 a16 a17 a18 a19 a20 a21 a22 a23 a24 := by
  refine pk_loop (σ := Nat → Int32) (fun n i s => wX_keep_275 post kd wd pn lt mk lc nw rc km kl kw kr tc ts tl tm n (nI i) a1 a2 a3 a4 a5 a6 a7 a8 a9 a10 a11 a12 a13 a14 a15 a16 a17 a18 a19 a20 a21 a22 a23 s) (fun _ _ => True) 4 0 a24 (by omega) trivial ?_ ?_
  · intro n s _
    exact pk_le 4 4 (fun _ => H s) (fun z => absurd z (by omega))
  · intro n i s hi _ ih
    exact pk_le 4 i (fun z => absurd z (by omega)) (fun _ => ⟨pk_in i 4 hi, pk_in (768 + i) 772 (by omega) (sw_am 768 i), nm_e (nm_r (nI_1 i) (ih _ trivial))⟩)
theorem sw_k160 {post : Int32 → St2 → Prop} {kd wd pn lt mk lc nw rc km kl kw kr tc ts tl tm : Int32} {a1 a2 a3 a4 a5 a6 a7 a8 a9 a10 a11 a12 a13 a14 a15 a16 a17 a18 a19 a20 a21 a22 a23 a24 : Nat → Int32} (H : ∀ c, post kr (kd, wd, pn, lt, mk, lc, nw, rc, km, kl, kw, kr, tc, ts, tl, tm, a1, a2, a3, a4, a5, a6, a7, a8, a9, a10, a11, a12, a13, a14, a15, a16, a17, a18, a19, a20, a21, a22, a23, c)) : ∃ n, wX_keep_160 post kd wd pn lt mk lc nw rc km kl kw kr tc ts tl tm n 0 a1 a2 a3 a4 a5 a6 a7 a8 a9 a10 a11 a12 a13 a14 a15 a16 a17 a18 a19 a20 a21 a22 a23 a24 := by
  refine pk_loop (σ := Nat → Int32) (fun n i s => wX_keep_160 post kd wd pn lt mk lc nw rc km kl kw kr tc ts tl tm n (nI i) a1 a2 a3 a4 a5 a6 a7 a8 a9 a10 a11 a12 a13 a14 a15 a16 a17 a18 a19 a20 a21 a22 a23 s) (fun _ _ => True) 128 0 a24 (by omega) trivial ?_ ?_
  · intro n s _
    exact pk_le 128 128 (fun _ => sw_k275 H) (fun z => absurd z (by omega))
  · intro n i s hi _ ih
    have h := pk_in i 128 hi
    exact pk_le 128 i (fun z => absurd z (by omega)) (fun _ => ⟨h, pk_in (6 * i) 772 (by omega) (sw_mulL 6 i), nm_e ⟨h, pk_in (6 * i + 1) 772 (by omega) (sw_ma 6 i 1), nm_e ⟨h, pk_in (6 * i + 2) 772 (by omega) (sw_ma 6 i 2), nm_e ⟨h, pk_in (6 * i + 3) 772 (by omega) (sw_ma 6 i 3), nm_e ⟨h, pk_in (6 * i + 4) 772 (by omega) (sw_ma 6 i 4), nm_e ⟨h, pk_in (6 * i + 5) 772 (by omega) (sw_ma 6 i 5), nm_e (nm_r (nI_1 i) (ih _ trivial))⟩⟩⟩⟩⟩⟩)
theorem sw_k83 {post : Int32 → St2 → Prop} {kd wd pn lt mk lc nw rc km kl kw kr tc ts tl tm : Int32} {a1 a2 a3 a4 a5 a6 a7 a8 a9 a10 a11 a12 a13 a14 a15 a16 a17 a18 a19 a20 a21 a22 a23 a24 : Nat → Int32} (H : ∀ b c, post kr (kd, wd, pn, lt, mk, lc, nw, rc, km, kl, kw, kr, tc, ts, tl, tm, a1, a2, a3, a4, a5, a6, a7, a8, a9, a10, a11, a12, a13, a14, a15, a16, a17, a18, a19, a20, a21, a22, b, c)) : ∃ n, wX_keep_83 post kd wd pn lt mk lc nw rc km kl kw kr tc ts tl tm n 0 a1 a2 a3 a4 a5 a6 a7 a8 a9 a10 a11 a12 a13 a14 a15 a16 a17 a18 a19 a20 a21 a22 a23 a24 := by
  refine pk_loop (σ := Nat → Int32) (fun n i s => wX_keep_83 post kd wd pn lt mk lc nw rc km kl kw kr tc ts tl tm n (nI i) a1 a2 a3 a4 a5 a6 a7 a8 a9 a10 a11 a12 a13 a14 a15 a16 a17 a18 a19 a20 a21 a22 s a24) (fun _ _ => True) 256 0 a23 (by omega) trivial ?_ ?_
  · intro n s _
    exact pk_le 256 256 (fun _ => sw_k160 (H s)) (fun z => absurd z (by omega))
  · intro n i s hi _ ih
    have h := pk_in i 256 hi
    exact pk_le 256 i (fun z => absurd z (by omega)) (fun _ => ⟨h, pk_in (4 * i) 1024 (by omega) (sw_mulL 4 i), nm_e ⟨h, pk_in (4 * i + 1) 1024 (by omega) (sw_ma 4 i 1), nm_e ⟨h, pk_in (4 * i + 2) 1024 (by omega) (sw_ma 4 i 2), nm_e ⟨h, pk_in (4 * i + 3) 1024 (by omega) (sw_ma 4 i 3), nm_e (nm_r (nI_1 i) (ih _ trivial))⟩⟩⟩⟩)
theorem sw_fill {f s : Nat → Int32} {i k : Nat} {x : Int32} (hk : k = i) (h : ∀ j, j < i → s j = f j) (hx : x = f i) : ∀ j, j < i + 1 → upd s k x j = f j := by
  intro j hj
  rw [hk]
  by_cases e : j = i
  · rw [e, pk_us, hx]
  · rw [pk_un e]
    exact h j (by omega)
/-- keep: what is kept of the positions, the mark and the number of results -/
theorem sw_keep {post : Int32 → St2 → Prop} {kd wd pn lt mk lc nw rc km kl kw kr tc ts tl tm : Int32} {a1 a2 a3 a4 a5 a6 a7 a8 a9 a10 a11 a12 a13 a14 a15 a16 a17 a18 a19 a20 a21 a22 a23 a24 : Nat → Int32} (H : ∀ b0 b1 b2 b3 b4, (∀ i, i < 3 → b0 i = a5 i) → post rc (kd, wd, pn, lt, mk, lc, nw, rc, mk, lc, nw, rc, tc, ts, tl, tm, a1, a2, a3, a4, a5, a6, a7, a8, a9, a10, a11, a12, a13, a14, a15, a16, a17, a18, a19, b0, b1, b2, b3, b4)) : wpX_keep post (kd, wd, pn, lt, mk, lc, nw, rc, km, kl, kw, kr, tc, ts, tl, tm, a1, a2, a3, a4, a5, a6, a7, a8, a9, a10, a11, a12, a13, a14, a15, a16, a17, a18, a19, a20, a21, a22, a23, a24) := by
  refine pk_loop (σ := (Nat → Int32) × (Nat → Int32) × (Nat → Int32)) (fun n i s => wX_keep_2 post kd wd pn lt mk lc nw rc km kl kw kr tc ts tl tm n (nI i) a1 a2 a3 a4 a5 a6 a7 a8 a9 a10 a11 a12 a13 a14 a15 a16 a17 a18 a19 s.1 s.2.1 s.2.2 a23 a24) (fun i s => ∀ j, j < i → s.1 j = a5 j) 3 0 (a20, a21, a22) (by omega) (fun j hj => absurd hj (by omega)) ?_ ?_
  · rintro n ⟨s0, s1, s2⟩ h
    exact pk_le 3 3 (fun _ => sw_k83 (fun b c => H s0 s1 s2 b c h)) (fun z => absurd z (by omega))
  · rintro n i ⟨s0, s1, s2⟩ hi h ih
    have h3 := pk_in i 3 hi
    have ci : (nI i).toNatClampNeg = i := nI_clamp (by omega)
    exact pk_le 3 i (fun z => absurd z (by omega)) (fun _ => ⟨h3, h3, nm_e ⟨h3, h3, nm_e ⟨h3, h3, nm_e (nm_r (nI_1 i) (ih (_, _, _) (sw_fill ci h (by rw [ci]))))⟩⟩⟩)
/-! crash -/
theorem sw_c275 {post : Int32 → St2 → Prop} {kd wd pn lt mk lc nw rc km kl kw kr tc ts tl tm : Int32} {a1 a2 a3 a4 a5 a6 a7 a8 a9 a10 a11 a12 a13 a14 a15 a16 a17 a18 a19 a20 a21 a22 a23 a24 : Nat → Int32} (H : ∀ c12, post rc (kd, wd, pn, lt, mk, lc, nw, rc, km, kl, kw, kr, tc, ts, tl, tm, a1, a2, a3, a4, a5, a6, a7, a8, a9, a10, a11, c12, a13, a14, a15, a16, a17, a18, a19, a20, a21, a22, a23, a24)) : ∃ n, wX_crash_275 post kd wd pn lt mk lc nw rc km kl kw kr tc ts tl tm n 0 a1 a2 a3 a4 a5 a6 a7 a8 a9 a10 a11 a12 a13 a14 a15 a16 a17 a18 a19 a20 a21 a22 a23 a24 := by
  refine pk_loop (σ := Nat → Int32) (fun n i s => wX_crash_275 post kd wd pn lt mk lc nw rc km kl kw kr tc ts tl tm n (nI i) a1 a2 a3 a4 a5 a6 a7 a8 a9 a10 a11 s a13 a14 a15 a16 a17 a18 a19 a20 a21 a22 a23 a24) (fun _ _ => True) 4 0 a12 (by omega) trivial ?_ ?_
  · intro n s _
    exact pk_le 4 4 (fun _ => H s) (fun z => absurd z (by omega))
  · intro n i s hi _ ih
    exact pk_le 4 i (fun z => absurd z (by omega)) (fun _ => ⟨pk_in (768 + i) 772 (by omega) (sw_am 768 i), pk_in i 4 hi, nm_e (nm_r (nI_1 i) (ih _ trivial))⟩)
theorem sw_c160 {post : Int32 → St2 → Prop} {kd wd pn lt mk lc nw rc km kl kw kr tc ts tl tm : Int32} {a1 a2 a3 a4 a5 a6 a7 a8 a9 a10 a11 a12 a13 a14 a15 a16 a17 a18 a19 a20 a21 a22 a23 a24 : Nat → Int32} (H : ∀ c12 c13 c14 c15 c16 c17 c18, post rc (kd, wd, pn, lt, mk, lc, nw, rc, km, kl, kw, kr, tc, ts, tl, tm, a1, a2, a3, a4, a5, a6, a7, a8, a9, a10, a11, c12, c13, c14, c15, c16, c17, c18, a19, a20, a21, a22, a23, a24)) : ∃ n, wX_crash_160 post kd wd pn lt mk lc nw rc km kl kw kr tc ts tl tm n 0 a1 a2 a3 a4 a5 a6 a7 a8 a9 a10 a11 a12 a13 a14 a15 a16 a17 a18 a19 a20 a21 a22 a23 a24 := by
  refine pk_loop (σ := (Nat → Int32) × (Nat → Int32) × (Nat → Int32) × (Nat → Int32) × (Nat → Int32) × (Nat → Int32)) (fun n i s => wX_crash_160 post kd wd pn lt mk lc nw rc km kl kw kr tc ts tl tm n (nI i) a1 a2 a3 a4 a5 a6 a7 a8 a9 a10 a11 a12 s.1 s.2.1 s.2.2.1 s.2.2.2.1 s.2.2.2.2.1 s.2.2.2.2.2 a19 a20 a21 a22 a23 a24) (fun _ _ => True) 128 0 (a13, a14, a15, a16, a17, a18) (by omega) trivial ?_ ?_
  · rintro n ⟨c13, c14, c15, c16, c17, c18⟩ _
    exact pk_le 128 128 (fun _ => sw_c275 (fun c12 => H c12 c13 c14 c15 c16 c17 c18)) (fun z => absurd z (by omega))
  · rintro n i ⟨c13, c14, c15, c16, c17, c18⟩ hi _ ih
    have h := pk_in i 128 hi
    exact pk_le 128 i (fun z => absurd z (by omega)) (fun _ => ⟨pk_in (6 * i) 772 (by omega) (sw_mulL 6 i), h, nm_e ⟨pk_in (6 * i + 1) 772 (by omega) (sw_ma 6 i 1), h, nm_e ⟨pk_in (6 * i + 2) 772 (by omega) (sw_ma 6 i 2), h, nm_e ⟨pk_in (6 * i + 3) 772 (by omega) (sw_ma 6 i 3), h, nm_e ⟨pk_in (6 * i + 4) 772 (by omega) (sw_ma 6 i 4), h, nm_e ⟨pk_in (6 * i + 5) 772 (by omega) (sw_ma 6 i 5), h, nm_e (nm_r (nI_1 i) (ih (_, _, _, _, _, _) trivial))⟩⟩⟩⟩⟩⟩)
theorem sw_c83 {post : Int32 → St2 → Prop} {kd wd pn lt mk lc nw rc km kl kw kr tc ts tl tm : Int32} {a1 a2 a3 a4 a5 a6 a7 a8 a9 a10 a11 a12 a13 a14 a15 a16 a17 a18 a19 a20 a21 a22 a23 a24 : Nat → Int32} (H : ∀ c8 c9 c10 c11 c12 c13 c14 c15 c16 c17 c18, post rc (kd, wd, pn, lt, mk, lc, nw, rc, km, kl, kw, kr, tc, ts, tl, tm, a1, a2, a3, a4, a5, a6, a7, c8, c9, c10, c11, c12, c13, c14, c15, c16, c17, c18, a19, a20, a21, a22, a23, a24)) : ∃ n, wX_crash_83 post kd wd pn lt mk lc nw rc km kl kw kr tc ts tl tm n 0 a1 a2 a3 a4 a5 a6 a7 a8 a9 a10 a11 a12 a13 a14 a15 a16 a17 a18 a19 a20 a21 a22 a23 a24 := by
  refine pk_loop (σ := (Nat → Int32) × (Nat → Int32) × (Nat → Int32) × (Nat → Int32)) (fun n i s => wX_crash_83 post kd wd pn lt mk lc nw rc km kl kw kr tc ts tl tm n (nI i) a1 a2 a3 a4 a5 a6 a7 s.1 s.2.1 s.2.2.1 s.2.2.2 a12 a13 a14 a15 a16 a17 a18 a19 a20 a21 a22 a23 a24) (fun _ _ => True) 256 0 (a8, a9, a10, a11) (by omega) trivial ?_ ?_
  · rintro n ⟨c8, c9, c10, c11⟩ _
    exact pk_le 256 256 (fun _ => sw_c160 (H c8 c9 c10 c11)) (fun z => absurd z (by omega))
  · rintro n i ⟨c8, c9, c10, c11⟩ hi _ ih
    have h := pk_in i 256 hi
    exact pk_le 256 i (fun z => absurd z (by omega)) (fun _ => ⟨pk_in (4 * i) 1024 (by omega) (sw_mulL 4 i), h, nm_e ⟨pk_in (4 * i + 1) 1024 (by omega) (sw_ma 4 i 1), h, nm_e ⟨pk_in (4 * i + 2) 1024 (by omega) (sw_ma 4 i 2), h, nm_e ⟨pk_in (4 * i + 3) 1024 (by omega) (sw_ma 4 i 3), h, nm_e (nm_r (nI_1 i) (ih (_, _, _, _) trivial))⟩⟩⟩⟩)
/-- crash: the positions, the mark and the number of results are what was kept -/
theorem sw_crash {post : Int32 → St2 → Prop} {kd wd pn lt mk lc nw rc km kl kw kr tc ts tl tm : Int32} {a1 a2 a3 a4 a5 a6 a7 a8 a9 a10 a11 a12 a13 a14 a15 a16 a17 a18 a19 a20 a21 a22 a23 a24 : Nat → Int32} (H : ∀ c5 c6 c7 c8 c9 c10 c11 c12 c13 c14 c15 c16 c17 c18, (∀ i, i < 3 → c5 i = a20 i) → post kr (kd, wd, pn, lt, km, kl, kw, kr, km, kl, kw, kr, tc, ts, tl, tm, a1, a2, a3, a4, c5, c6, c7, c8, c9, c10, c11, c12, c13, c14, c15, c16, c17, c18, a19, a20, a21, a22, a23, a24)) : wpX_crash post (kd, wd, pn, lt, mk, lc, nw, rc, km, kl, kw, kr, tc, ts, tl, tm, a1, a2, a3, a4, a5, a6, a7, a8, a9, a10, a11, a12, a13, a14, a15, a16, a17, a18, a19, a20, a21, a22, a23, a24) := by
  refine pk_loop (σ := (Nat → Int32) × (Nat → Int32) × (Nat → Int32)) (fun n i s => wX_crash_2 post kd wd pn lt mk lc nw rc km kl kw kr tc ts tl tm n (nI i) a1 a2 a3 a4 s.1 s.2.1 s.2.2 a8 a9 a10 a11 a12 a13 a14 a15 a16 a17 a18 a19 a20 a21 a22 a23 a24) (fun i s => ∀ j, j < i → s.1 j = a20 j) 3 0 (a5, a6, a7) (by omega) (fun j hj => absurd hj (by omega)) ?_ ?_
  · rintro n ⟨s0, s1, s2⟩ h
    exact pk_le 3 3 (fun _ => sw_c83 (fun c8 c9 c10 c11 c12 c13 c14 c15 c16 c17 c18 => H s0 s1 s2 c8 c9 c10 c11 c12 c13 c14 c15 c16 c17 c18 h)) (fun z => absurd z (by omega))
  · rintro n i ⟨s0, s1, s2⟩ hi h ih
    have h3 := pk_in i 3 hi
    have ci : (nI i).toNatClampNeg = i := nI_clamp (by omega)
    exact pk_le 3 i (fun z => absurd z (by omega)) (fun _ => ⟨h3, h3, nm_e ⟨h3, h3, nm_e ⟨h3, h3, nm_e (nm_r (nI_1 i) (ih (_, _, _) (sw_fill ci h (by rw [ci]))))⟩⟩⟩)
/-! the constructor -/
theorem sw_init {post : St2 → Prop} {mc ms st lt : Nat} (hmc : 24 ≤ mc) (hms : 5893 ≤ ms) (hst : 1 ≤ st ∧ st ≤ 8) (hl : lt ≤ 20)
    (H : ∀ km kl kw kr a6 a20 a21 a22 a23 a24, (∀ i, i < 3 → a6 i = sw_i (-1000)) →
      post (0, nI st, 1, nI lt, sw_i (-1000), nI 0, nI 0, nI 0, km, kl, kw, kr, 0, 0, 0, 0, (fun _ => 0), (fun _ => 0), (fun _ => 0), (fun _ => 0), (fun _ => 0), a6, (fun _ => 0), (fun _ => 0), (fun _ => 0), (fun _ => 0), (fun _ => 0), (fun _ => 0), (fun _ => 0), (fun _ => 0), (fun _ => 0), (fun _ => 0), (fun _ => 0), (fun _ => 0), (fun _ => 0), a20, a21, a22, a23, a24)) :
    wpX_init post mc ms (0, 0, 0, 0, 0, 0, 0, 0, 0, 0, 0, 0, 0, 0, 0, 0) 0 (nI st) 3 (nI lt) := by
  refine ⟨by omega, by omega, by omega, by omega, by omega, by omega, by omega, by omega, by omega, by omega, by omega, by omega, by omega, by omega, by omega, by omega, by omega, by omega, by omega, by omega, by omega, by omega, by omega, by omega, by omega, by omega, by omega, by omega, by omega, by omega, by omega, by omega, by omega, by omega, by omega, by omega, by omega, by omega, by omega, by omega, by omega, by omega, by omega, by omega, by omega, by omega, by omega, by omega, ?_⟩
  refine br_t (by decide) (br_t (by decide) ?_)
  refine pk_le 1 st (fun _ => pk_le st 8 (fun _ => ?_) (fun z => absurd z (by omega))) (fun z => absurd z (by omega))
  refine br_t (by decide) (br_t (by decide) (br_f (by decide) ?_))
  refine pk_le 0 lt (fun _ => pk_le lt 20 (fun _ => ?_) (fun z => absurd z (by omega))) (fun z => absurd z (by omega))
  refine nm_r (e' := 0) (by decide) ?_
  refine pk_loop (σ := Nat → Int32) (fun n i s => wX_init_334 post mc ms 24 5893 0 (nI st) 1 (nI lt) (-1000) 0 0 0 0 0 0 0 0 0 0 0 n (nI i) (fun _ => 0) (fun _ => 0) (fun _ => 0) (fun _ => 0) (fun _ => 0) s (fun _ => 0) (fun _ => 0) (fun _ => 0) (fun _ => 0) (fun _ => 0) (fun _ => 0) (fun _ => 0) (fun _ => 0) (fun _ => 0) (fun _ => 0) (fun _ => 0) (fun _ => 0) (fun _ => 0) (fun _ => 0) (fun _ => 0) (fun _ => 0) (fun _ => 0) (fun _ => 0))
    (fun i s => ∀ j, j < i → s j = sw_i (-1000)) 3 0 (fun _ => 0) (by omega) (fun j hj => absurd hj (by omega)) ?_ ?_
  · intro n s h
    refine pk_le 3 3 (fun _ => sw_keep (fun b0 b1 b2 b3 b4 _ => ?_)) (fun z => absurd z (by omega))
    have H' := H (-1000) 0 0 0 s b0 b1 b2 b3 b4 h
    rw [sw_m1000] at H'
    exact H'
  · intro n i s hi h ih
    have ci : (nI i).toNatClampNeg = i := nI_clamp (by omega)
    exact pk_le 3 i (fun z => absurd z (by omega)) (fun _ => ⟨pk_in i 3 hi, nm_e (nm_r (nI_1 i) (ih _ (sw_fill (f := fun _ => sw_i (-1000)) ci h sw_m1000.symm)))⟩)
end
section
/-- where all sources are idle the mark stays -/
theorem sw_nmI {lt : Nat} {mk g0 g1 g2 : Int} {d0 d1 d2 : Int32} (h0 : ¬ d0 = 0) (h1 : ¬ d1 = 0) (h2 : ¬ d2 = 0) : sw_nm lt mk g0 g1 g2 d0 d1 d2 = mk := by
  have e : sw_ls3 lt g0 g1 g2 d0 d1 d2 = 1000 := by
    rw [sw_ls3, sw_lst, if_neg h2, sw_lst, if_neg h1, sw_lst, if_neg h0]
  rw [sw_nm, e, if_pos (by omega)]
/-- one place more by n -/
def sw_cc (c : Nat → Nat) (s n : Nat) : Nat → Nat := fun j => if j = s then c s + n else c j
theorem sw_ccS {c : Nat → Nat} {s n : Nat} : sw_cc c s n s = c s + n := if_pos rfl
theorem sw_ccN {c : Nat → Nat} {s n j : Nat} (h : j ≠ s) : sw_cc c s n j = c j := if_neg h
theorem sw_cc0 {c : Nat → Nat} {s : Nat} : sw_cc c s 0 = c := by
  funext j
  by_cases h : j = s
  · rw [h, sw_ccS, Nat.add_zero]
  · rw [sw_ccN h]
theorem sw_ccSum {c p : Nat → Nat} {s : Nat} (hs : s < 3) (h0 : p 0 ≤ c 0) (h1 : p 1 ≤ c 1) (h2 : p 2 ≤ c 2) (h : p s < c s) : c 0 - sw_cc p s 1 0 + (c 1 - sw_cc p s 1 1) + (c 2 - sw_cc p s 1 2) + 1 = c 0 - p 0 + (c 1 - p 1) + (c 2 - p 2) := by
  have hs3 : s = 0 ∨ s = 1 ∨ s = 2 := by omega
  rcases hs3 with y | y | y
  · subst y
    rw [sw_ccS, sw_ccN (by decide), sw_ccN (by decide)]
    omega
  · subst y
    rw [sw_ccS, sw_ccN (by decide), sw_ccN (by decide)]
    omega
  · subst y
    rw [sw_ccS, sw_ccN (by decide), sw_ccN (by decide)]
    omega
theorem sw_ccSumC {c p : Nat → Nat} {s n : Nat} (hs : s < 3) (h0 : p 0 ≤ c 0) (h1 : p 1 ≤ c 1) (h2 : p 2 ≤ c 2) : sw_cc c s n 0 - p 0 + (sw_cc c s n 1 - p 1) + (sw_cc c s n 2 - p 2) = c 0 - p 0 + (c 1 - p 1) + (c 2 - p 2) + n := by
  have hs3 : s = 0 ∨ s = 1 ∨ s = 2 := by omega
  rcases hs3 with y | y | y
  · subst y
    rw [sw_ccS, sw_ccN (by decide), sw_ccN (by decide)]
    omega
  · subst y
    rw [sw_ccS, sw_ccN (by decide), sw_ccN (by decide)]
    omega
  · subst y
    rw [sw_ccS, sw_ccN (by decide), sw_ccN (by decide)]
    omega
/-- the greatest times when positions went from p to p2, all events of time 63 -/
def sw_gg (p p2 : Nat → Nat) (g : Nat → Int) : Nat → Int := fun i => if p i < p2 i then 63 else g i
theorem sw_ggE {p p2 p3 : Nat → Nat} {g : Nat → Int} {i : Nat} (h : p2 i = p3 i) : sw_gg p p2 g i = sw_gg p p3 g i := by
  unfold sw_gg
  rw [h]
theorem sw_gg0 {p : Nat → Nat} {g : Nat → Int} {i : Nat} : sw_gg p p g i = g i := if_neg (Nat.lt_irrefl _)
theorem sw_ggB {p p2 : Nat → Nat} {g : Nat → Int} {i : Nat} {z : Int} (hz : z ≤ 63) (h : z ≤ g i ∧ g i ≤ 63) : z ≤ sw_gg p p2 g i ∧ sw_gg p p2 g i ≤ 63 := by
  unfold sw_gg
  split <;> omega
/-- readAll: all sources idle, all events that are not read yet of time 63 -/
theorem sw_readAll {post : Int32 → St2 → Prop} {st lt lc nw rc : Nat} {mk : Int} {km kl kw kr tc ts tl tm : Int32} {a1 a2 a3 a4 a5 a6 a7 a8 a9 a10 a11 a12 a13 a14 a15 a16 a17 a18 a19 a20 a21 a22 a23 a24 : Nat → Int32} {c p : Nat → Nat} {g : Nat → Int} {tot : Nat} (hst : 1 ≤ st ∧ st ≤ 8) (hl : lt ≤ 20) (hm : -1000 ≤ mk ∧ mk ≤ 63) (hw : nw ≤ 64) (hr : rc ≤ 4 * nw) (hmw : mk < (((nw + 1) * st : Nat) : Int))
    (hc : ∀ i, i < 3 → a1 i = nI (c i)) (hp : ∀ i, i < 3 → a5 i = nI (p i)) (hpc : ∀ i, i < 3 → p i ≤ c i ∧ c i ≤ 20) (htot : c 0 - p 0 + (c 1 - p 1) + (c 2 - p 2) = tot) (ht6 : tot < 60) (hid : ∀ i, i < 3 → ¬ a7 i = 0)
    (hev : ∀ i, i < 3 → ∀ q, p i ≤ q → q < c i → a2 (20 * i + q) = nI 63 ∧ ∃ k, k < 4 ∧ a3 (20 * i + q) = nI k)
    (hg : ∀ i, i < 3 → a6 i = sw_i (g i)) (hgb : ∀ i, i < 3 → -1000 ≤ g i ∧ g i ≤ 63)
    (H : ∀ tc' ts' tl' tm' a5' a6' a8' a9' a10' a11' b, (∀ i, i < 3 → a5' i = nI (c i)) → (∀ i, i < 3 → a6' i = sw_i (sw_gg p c g i)) →
      post (nI tot) (0, nI st, 1, nI lt, sw_i mk, nI lc, nI nw, nI rc, km, kl, kw, kr, tc', ts', tl', tm', a1, a2, a3, a4, a5', a6', a7, a8', a9', a10', a11', a12, a13, a14, a15, a16, a17, a18, b, a20, a21, a22, a23, a24)) : wpX_readAll post (0, nI st, 1, nI lt, sw_i mk, nI lc, nI nw, nI rc, km, kl, kw, kr, tc, ts, tl, tm, a1, a2, a3, a4, a5, a6, a7, a8, a9, a10, a11, a12, a13, a14, a15, a16, a17, a18, a19, a20, a21, a22, a23, a24) := by
  refine sw_full hc hp hpc (fun s0 hs0 hmax0 => ?_)
  have h63 : mk < (((63 / st + 1) * st : Nat) : Int) := by
    have := sw_tE 63 st hst.1
    omega
  refine loop_m (σ := (Nat → Nat) × Nat × Nat × Int32 × Int32 × Int32 × Int32 × (Nat → Int32) × (Nat → Int32) × (Nat → Int32) × (Nat → Int32) × (Nat → Int32) × (Nat → Int32) × (Nat → Int32))
    (fun n s => wX_readAll_7 post n (nI s.2.1) (nI s.2.2.1) 0 (nI st) 1 (nI lt) (sw_i mk) (nI lc) (nI nw) (nI rc) km kl kw kr s.2.2.2.1 s.2.2.2.2.1 s.2.2.2.2.2.1 s.2.2.2.2.2.2.1 a1 a2 a3 a4 s.2.2.2.2.2.2.2.1 s.2.2.2.2.2.2.2.2.1 a7 s.2.2.2.2.2.2.2.2.2.1 s.2.2.2.2.2.2.2.2.2.2.1 s.2.2.2.2.2.2.2.2.2.2.2.1 s.2.2.2.2.2.2.2.2.2.2.2.2.1 a12 a13 a14 a15 a16 a17 a18 s.2.2.2.2.2.2.2.2.2.2.2.2.2 a20 a21 a22 a23 a24)
    (fun s => s.2.2.1 < 3 ∧ (∀ i, i < 3 → p i ≤ s.1 i ∧ s.1 i ≤ c i) ∧ s.2.1 + (c 0 - s.1 0 + (c 1 - s.1 1) + (c 2 - s.1 2)) = tot ∧ (∀ i, i < 3 → c i - s.1 i ≤ c s.2.2.1 - s.1 s.2.2.1) ∧ (∀ i, i < 3 → s.2.2.2.2.2.2.2.1 i = nI (s.1 i)) ∧ (∀ i, i < 3 → s.2.2.2.2.2.2.2.2.1 i = sw_i (sw_gg p s.1 g i)))
    (fun s => c 0 - s.1 0 + (c 1 - s.1 1) + (c 2 - s.1 2)) ?_ (p, 0, s0, tc, ts, tl, tm, a5, a6, a8, a9, a10, a11, a19)
    ⟨hs0, fun i hi => ⟨Nat.le_refl _, (hpc i hi).1⟩, by dsimp only; omega, hmax0, hp, fun i hi => by dsimp only; rw [sw_gg0]; exact hg i hi⟩
  rintro n ⟨p', m, s, tc', ts', tl', tm', a5', a6', a8', a9', a10', a11', b'⟩ ⟨hs, hpp, hsum, hmax, hp5, hg6⟩ ih
  dsimp only at hs hpp hsum hmax hp5 hg6 ih
  have hpc' : ∀ i, i < 3 → p' i ≤ c i ∧ c i ≤ 20 := fun i hi => ⟨(hpp i hi).2, (hpc i hi).2⟩
  have m0 := hmax 0 (by omega)
  have m1 := hmax 1 (by omega)
  have m2 := hmax 2 (by omega)
  have q0 := hpp 0 (by omega)
  have q1 := hpp 1 (by omega)
  have q2 := hpp 2 (by omega)
  have qs := hpc' s hs
  have qs2 := hpp s hs
  refine pk_le 60 m (fun z => absurd z (by omega)) (fun _ => ⟨pk_in s 3 hs, pk_in s 3 hs, pk_le (c s - p' s) 0 (fun z => ?_) (fun z => ?_) (sw_un hc hp5 hpc' hs)⟩)
  · have hm0 : m = tot := by omega
    have hall : ∀ i, i < 3 → p' i = c i := fun i hi => by
      have := hmax i hi
      have := hpp i hi
      omega
    have H' := H tc' ts' tl' tm' a5' a6' a8' a9' a10' a11' b' (fun i hi => by rw [hp5 i hi, hall i hi]) (fun i hi => by rw [hg6 i hi, sw_ggE (hall i hi)])
    rw [← hm0] at H'
    exact H'
  · obtain ⟨h2, k, hk, h3⟩ := hev s hs (p' s) qs2.1 (by omega)
    have hgb' : ∀ i, i < 3 → -1000 ≤ sw_gg p p' g i ∧ sw_gg p p' g i ≤ 63 := fun i hi => sw_ggB (by decide) (hgb i hi)
    refine sw_readOne (g := sw_gg p p' g) hs hst hl hm hw hr (hp5 s hs) (by omega) h2 (by omega) h3 hk hg6 hgb' (sw_nmI (hid 0 (by omega)) (hid 1 (by omega)) (hid 2 (by omega))) (fun lc2 nw2 rc2 tc2 ts2 tl2 tm2 b8 b9 b10 b11 b2 hT hC => ?_)
    obtain ⟨e1, e2⟩ := sw_still hC hmw
    subst e1 e2
    have e3 : lc2 = lc := by
      rcases hT with h | h
      · exact h.2.1
      · exact absurd h.1 (by omega)
    subst e3
    have hp7 : ∀ i, i < 3 → upd a5' s (nI (p' s + 1)) i = nI (sw_cc p' s 1 i) := fun i hi => by
      by_cases y : i = s
      · rw [y, pk_us, sw_ccS]
      · rw [pk_un y, hp5 i hi, sw_ccN y]
    have hpc7 : ∀ i, i < 3 → sw_cc p' s 1 i ≤ c i ∧ c i ≤ 20 := fun i hi => by
      have := hpc' i hi
      by_cases y : i = s
      · rw [y, sw_ccS]
        omega
      · rw [sw_ccN y]
        exact this
    have hq7 : ∀ i, i < 3 → p i ≤ sw_cc p' s 1 i := fun i hi => by
      have := hpp i hi
      by_cases y : i = s
      · rw [y, sw_ccS]
        omega
      · rw [sw_ccN y]
        exact this.1
    have hsum7 := sw_ccSum hs q0.2 q1.2 q2.2 (by omega)
    have hg7 : ∀ i, i < 3 → upd a6' s (sw_i (sw_up (sw_gg p p' g) s ((63 : Nat) : Int) s)) i = sw_i (sw_gg p (sw_cc p' s 1) g i) := fun i hi => by
      by_cases y : i = s
      · have b := hgb' s hs
        rw [y, pk_us, sw_upS]
        have e : sw_gg p (sw_cc p' s 1) g s = 63 := if_pos (by rw [sw_ccS]; omega)
        rw [e]
        split
        · rw [show sw_gg p p' g s = 63 by omega]
        · rfl
      · rw [pk_un y, hg6 i hi, sw_ggE (sw_ccN y)]
    refine nm_r (nI_1 m) (sw_full hc hp7 hpc7 (fun s2 hs2 hmax2 => ih (sw_cc p' s 1, m + 1, s2, tc2, ts2, tl2, tm2, upd a5' s (nI (p' s + 1)), upd a6' s (sw_i (sw_up (sw_gg p p' g) s ((63 : Nat) : Int) s)), b8, b9, b10, b11, b2) ⟨hs2, fun i hi => ⟨hq7 i hi, (hpc7 i hi).1⟩, ?_, hmax2, hp7, hg7⟩ ?_))
    · show m + 1 + (c 0 - sw_cc p' s 1 0 + (c 1 - sw_cc p' s 1 1) + (c 2 - sw_cc p' s 1 2)) = tot
      omega
    · show c 0 - sw_cc p' s 1 0 + (c 1 - sw_cc p' s 1 1) + (c 2 - sw_cc p' s 1 2) < c 0 - p' 0 + (c 1 - p' 1) + (c 2 - p' 2)
      omega
end
section
/-! the mark by its sources -/
theorem sw_lstC (lt : Nat) (d : Int32) (g x : Int) : (sw_lst lt d g x = x ∨ (d = 0 ∧ sw_lst lt d g x = sw_own lt g)) ∧ (d = 0 → sw_lst lt d g x ≤ sw_own lt g) ∧ sw_lst lt d g x ≤ x := by
  unfold sw_lst
  split
  · rename_i h
    split
    · rename_i h2
      exact ⟨Or.inl rfl, fun _ => h2, Int.le_refl _⟩
    · rename_i h2
      exact ⟨Or.inr ⟨h, rfl⟩, fun _ => Int.le_refl _, by omega⟩
  · rename_i h
    exact ⟨Or.inl rfl, fun z => absurd z h, Int.le_refl _⟩
theorem sw_lsC {lt : Nat} {g : Nat → Int} {d : Nat → Int32} {X : Int} (hX : sw_ls3 lt (g 0) (g 1) (g 2) (d 0) (d 1) (d 2) = X) :
    (∀ i, i < 3 → d i = 0 → X ≤ sw_own lt (g i)) ∧ (X = 1000 ∨ ∃ i, i < 3 ∧ d i = 0 ∧ X = sw_own lt (g i)) ∧ X ≤ 1000 := by
  have A := sw_lstC lt (d 0) (g 0) 1000
  have B := sw_lstC lt (d 1) (g 1) (sw_lst lt (d 0) (g 0) 1000)
  have C := sw_lstC lt (d 2) (g 2) (sw_lst lt (d 1) (g 1) (sw_lst lt (d 0) (g 0) 1000))
  unfold sw_ls3 at hX
  rw [hX] at C
  generalize sw_lst lt (d 1) (g 1) (sw_lst lt (d 0) (g 0) 1000) = x1 at B C
  generalize sw_lst lt (d 0) (g 0) 1000 = x0 at A B
  refine ⟨sw_3 (fun h => ?_) (fun h => ?_) (fun h => ?_), ?_, by omega⟩
  · have := A.2.1 h
    omega
  · have := B.2.1 h
    omega
  · exact C.2.1 h
  · rcases C.1 with c | ⟨c, c'⟩
    · rcases B.1 with b | ⟨b, b'⟩
      · rcases A.1 with a | ⟨a, a'⟩
        · exact Or.inl (by omega)
        · exact Or.inr ⟨0, by omega, a, by omega⟩
      · exact Or.inr ⟨1, by omega, b, by omega⟩
    · exact Or.inr ⟨2, by omega, c, c'⟩
/-- the new mark, v what the sources that are not idle have to say -/
theorem sw_nmG {lt : Nat} {mk : Int} {g : Nat → Int} {d : Nat → Int32} (v : Int) (hv : v < 1000) (h1 : ∀ i, i < 3 → d i = 0 → v ≤ sw_own lt (g i)) (h2 : ∃ i, i < 3 ∧ d i = 0 ∧ v = sw_own lt (g i)) :
    sw_nm lt mk (g 0) (g 1) (g 2) (d 0) (d 1) (d 2) = if v ≤ mk then mk else v := by
  obtain ⟨A, B, C⟩ := sw_lsC (lt := lt) (g := g) (d := d) rfl
  obtain ⟨i, hi, hd, hw⟩ := h2
  have hA := A i hi hd
  have hX : sw_ls3 lt (g 0) (g 1) (g 2) (d 0) (d 1) (d 2) = v := by
    rcases B with b | ⟨j, hj, hdj, b⟩
    · omega
    · have := h1 j hj hdj
      omega
  rw [sw_nm, hX, if_neg (by omega)]
/-- it stays where a source that is not idle has nothing greater to say -/
theorem sw_nmS {lt : Nat} {mk : Int} {g : Nat → Int} {d : Nat → Int32} {i : Nat} (hi : i < 3) (hd : d i = 0) (h : sw_own lt (g i) ≤ mk) : sw_nm lt mk (g 0) (g 1) (g 2) (d 0) (d 1) (d 2) = mk := by
  obtain ⟨A, B, C⟩ := sw_lsC (lt := lt) (g := g) (d := d) rfl
  have hA := A i hi hd
  unfold sw_nm
  split
  · rfl
  · rw [if_pos (by omega)]
theorem sw_ownP {lt : Nat} {g : Int} (h : 0 ≤ g) : sw_own lt g = g - lt := if_neg (by omega)
theorem sw_dEI {t st : Nat} (ht : t < 64) (hst : 1 ≤ st ∧ st ≤ 8) : nI t / nI st * nI st + nI st = nI ((t / st + 1) * st) := by
  rw [pk_div (by omega) hst.1 (by omega), pk_mul, nI_add, sw_dE]
/-! behind the last idle -/
theorem sw_L1051 {post : Int32 → St0 → Prop} {mc ms kc ks : Nat} {kd wd pn lt mk lc nw rc km kl kw tc ts tl tm : Int32} {a1 a2 a3 a4 a5 a6 a7 a8 a9 a10 a11 a12 a13 a14 a15 a16 a17 a18 a19 a20 a21 a22 a23 a24 : Nat → Int32} {kr : Nat} {c : Nat → Nat} {x26 x31 x33 z0 z1 : Int32} (hP : post 1 ()) (hz : z1 = z0) (h31 : nI kr = x31) (hkm : km = x26) (hkr : kr ≤ 300) (hd : sw_dg a19 kr = x33)
    (hc : ∀ i, i < 3 → a1 i = nI (c i)) (hc2 : ∀ i, i < 3 → c i ≤ 20) (hk : ∀ i, i < 3 → a20 i = nI (c i)) :
    wL_lawOf_1051 post mc ms x26 x31 x33 z0 z1 kc ks kd wd pn lt mk lc nw rc km kl kw (nI kr) tc ts tl tm a1 a2 a3 a4 a5 a6 a7 a8 a9 a10 a11 a12 a13 a14 a15 a16 a17 a18 a19 a20 a21 a22 a23 a24 := by
  refine br_t hz (sw_crash (fun c5 c6 c7 c8 c9 c10 c11 c12 c13 c14 c15 c16 c17 c18 h5 => ?_))
  refine br_t h31 (br_t hkm (sw_digest hkr (br_t hd (br_t h31 (sw_readAll0 hc (fun i hi => ?_) hc2 (br_t rfl hP))))))
  rw [h5 i hi, hk i hi]
theorem sw_L1033 {post : Int32 → St0 → Prop} {mc ms kc ks : Nat} {kd wd pn lt mk lc nw rc kl kw tc ts tl tm : Int32} {a1 a2 a3 a4 a5 a6 a7 a8 a9 a10 a11 a12 a13 a14 a15 a16 a17 a18 a19 a20 a21 a22 a23 a24 : Nat → Int32} {kr : Nat} {c : Nat → Nat} {x33 z0 : Int32} {mk0 du mk2 : Int} (hP : post 1 ()) (hb : -1000 ≤ mk0 ∧ mk0 ≤ 63) (hdu : -1000 ≤ du ∧ du ≤ 63) (h2 : mk2 = if du ≤ mk0 then mk0 else du)
    (hkr : kr ≤ 300) (hd : sw_dg a19 kr = x33) (hc : ∀ i, i < 3 → a1 i = nI (c i)) (hc2 : ∀ i, i < 3 → c i ≤ 20) (hk : ∀ i, i < 3 → a20 i = nI (c i)) (hz : z0 = sw_i du) :
    wL_lawOf_1033 post mc ms (sw_i mk0) (nI kr) x33 (sw_i mk2) z0 kc ks kd wd pn lt mk lc nw rc (sw_i mk0) kl kw (nI kr) tc ts tl tm a1 a2 a3 a4 a5 a6 a7 a8 a9 a10 a11 a12 a13 a14 a15 a16 a17 a18 a19 a20 a21 a22 a23 a24 := by
  refine sw_ble du mk0 (fun y => ?_) (fun y => ?_) hz
  · exact sw_L1051 hP (by rw [h2, if_pos y]) rfl rfl hkr hd hc hc2 hk
  · exact sw_L1051 hP (by rw [h2, if_neg (by omega), hz]) rfl rfl hkr hd hc hc2 hk
/-- the times that the law knows: top, two, three -/
def sw_tm (top two three s : Nat) : Nat := if s = 0 then top else if s = 1 then two else three
theorem sw_L965 {post : Int32 → St0 → Prop} {mc ms kc ks : Nat} {st lt lc nw rc : Nat} {mk : Int} {km kl kw kr tc ts tl tm : Int32} {a1 a2 a3 a4 a5 a6 a7 a8 a9 a10 a11 a12 a13 a14 a15 a16 a17 a18 a19 a20 a21 a22 a23 a24 : Nat → Int32} {c : Nat → Nat} {g : Nat → Int} {two three top other far : Nat} (hP : post 1 ()) (hst : 1 ≤ st ∧ st ≤ 8) (hl : lt ≤ 20) (hm : -1000 ≤ mk ∧ mk ≤ 63) (hw : nw ≤ 64) (hr : rc ≤ 4 * nw)
    (hc : ∀ i, i < 3 → a1 i = nI (c i)) (hc2 : ∀ i, i < 3 → c i ≤ 20) (h5 : ∀ i, i < 3 → a5 i = nI (c i)) (hid : ∀ i, i < 3 → ¬ a7 i = 0) (hg : ∀ i, i < 3 → a6 i = sw_i (g i)) (hgb : ∀ i, i < 3 → 0 ≤ g i ∧ g i ≤ 63)
    (ho : other < 3) (hf : far < 1000) (hgo : g other = if 0 < far then 63 else (sw_tm top two three other : Int)) :
    wL_lawOf_965 post mc ms (nI lt) (nI two) (nI three) (nI top) (nI other) (sw_i mk) (nI far) (nI rc) kc ks 0 (nI st) 1 (nI lt) (sw_i mk) (nI lc) (nI nw) (nI rc) km kl kw kr tc ts tl tm a1 a2 a3 a4 a5 a6 a7 a8 a9 a10 a11 a12 a13 a14 a15 a16 a17 a18 a19 a20 a21 a22 a23 a24 := by
  have gb := hgb other ho
  have e : sw_nm lt mk (g 0) (g 1) (g 2) (upd a7 other 0 0) (upd a7 other 0 1) (upd a7 other 0 2) = if g other - lt ≤ mk then mk else g other - lt := by
    refine sw_nmG (d := upd a7 other 0) (g other - lt) (by omega) (fun i hi hd => ?_) ⟨other, ho, pk_us, (sw_ownP gb.1).symm⟩
    by_cases y : i = other
    · rw [y, sw_ownP gb.1]
      exact Int.le_refl _
    · rw [pk_un y] at hd
      exact absurd hd (hid i hi)
  refine sw_keep (fun b0 b1 b2 b3 b4 h0 => sw_digest (by omega) ?_)
  refine sw_idle (s := other) (d := 0) sw_nar0 ho hst hl hm hw hr hg (fun i hi => by have := hgb i hi; omega) e (fun nw' rc' tc' ts' tl' tm' b hC => ?_)
  have hdg : sw_dg b rc = sw_dg a19 rc := sw_dgC rc hC.1.2.2.2.2.2.1
  have K : ∀ z0, z0 = sw_i (g other - lt) → wL_lawOf_1033 post mc ms (sw_i mk) (nI rc) (sw_dg a19 rc) (sw_i (if g other - lt ≤ mk then mk else g other - lt)) z0 kc ks 0 (nI st) 1 (nI lt) (sw_i (if g other - lt ≤ mk then mk else g other - lt)) (nI lc) (nI nw') (nI rc') (sw_i mk) (nI lc) (nI nw) (nI rc) tc' ts' tl' tm' a1 a2 a3 a4 a5 a6 (upd a7 other 0) a8 a9 a10 a11 a12 a13 a14 a15 a16 a17 a18 b b0 b1 b2 b3 b4 := by
    intro z0 hz
    exact sw_L1033 hP hm (by omega) rfl (by omega) hdg hc hc2 (fun i hi => by rw [h0 i hi, h5 i hi]) hz
  refine pk_le far 0 (fun z => ?_) (fun z => ?_)
  · rw [if_neg (by omega)] at hgo
    refine pk_eq other 0 (fun y => K _ ?_) (fun y => pk_eq other 1 (fun y1 => K _ ?_) (fun y1 => K _ ?_))
    · rw [sw_subNN, hgo, sw_tm, if_pos y]
    · rw [sw_subNN, hgo, sw_tm, if_neg y, if_pos y1]
    · rw [sw_subNN, hgo, sw_tm, if_neg y, if_neg y1]
  · rw [if_pos z] at hgo
    refine K _ ?_
    rw [hgo]
    exact sw_subNN 63 lt
theorem sw_L840 {post : Int32 → St0 → Prop} {mc ms kc ks : Nat} {st lt lc nw rc : Nat} {mk : Int} {km kl kw kr tc ts tl tm : Int32} {a1 a2 a3 a4 a5 a6 a7 a8 a9 a10 a11 a12 a13 a14 a15 a16 a17 a18 a19 a20 a21 a22 a23 a24 : Nat → Int32} {c p : Nat → Nat} {g : Nat → Int} {two three top other far near : Nat} {z0 z1 : Int32} (hP : post 1 ()) (hst : 1 ≤ st ∧ st ≤ 8) (hl : lt ≤ 20) (hm : -1000 ≤ mk ∧ mk ≤ 63) (hw : nw ≤ 64) (hr : rc ≤ 4 * nw) (hmw : mk < (((nw + 1) * st : Nat) : Int)) (hlc : lc < 1000)
    (hc : ∀ i, i < 3 → a1 i = nI (c i)) (hp : ∀ i, i < 3 → a5 i = nI (p i)) (hpc : ∀ i, i < 3 → p i ≤ c i ∧ c i ≤ 20) (htot : c 0 - p 0 + (c 1 - p 1) + (c 2 - p 2) = far + near) (hid : ∀ i, i < 3 → ¬ a7 i = 0)
    (hev : ∀ i, i < 3 → ∀ q, p i ≤ q → q < c i → a2 (20 * i + q) = nI 63 ∧ ∃ k, k < 4 ∧ a3 (20 * i + q) = nI k)
    (hg : ∀ i, i < 3 → a6 i = sw_i (g i)) (hgb : ∀ i, i < 3 → 0 ≤ g i ∧ g i ≤ 63)
    (ho : other < 3) (hf : far < 8) (hn : near < 4) (hco : c other = p other + far) (hgo : g other = (sw_tm top two three other : Int)) (hz : z1 = z0) :
    wL_lawOf_840 post mc ms (nI st) (nI lt) (nI two) (nI three) (nI top) (nI other) (sw_i mk) (nI far) (nI near) (nI lc) (nI (p other)) (nI rc) z0 z1 kc ks 0 (nI st) 1 (nI lt) (sw_i mk) (nI lc) (nI nw) (nI rc) km kl kw kr tc ts tl tm a1 a2 a3 a4 a5 a6 a7 a8 a9 a10 a11 a12 a13 a14 a15 a16 a17 a18 a19 a20 a21 a22 a23 a24 := by
  have h63 := sw_tE 63 st hst.1
  have E8 : (63 / st + 1) * st ≤ 520 := sw_E8 (Nat.le_of_lt (sw_dlt (by omega))) hst.2
  refine br_t hz (sw_readAll hst hl hm hw hr hmw hc hp hpc htot (by omega) hid hev hg (fun i hi => by have := hgb i hi; omega) (fun tc' ts' tl' tm' a5' a6' a8' a9' a10' a11' b h5 h6 => ?_))
  refine br_t (nI_add far near).symm (sw_pos ho (br_t ?_ (br_t rfl (br_t (nI_le (Nat.le_refl _) (by omega)) ⟨nI_ne0 hst.1 (by omega), sw_blt mk (((63 / st + 1) * st : Nat) : Int) (fun _ => ?_) (fun y => absurd y (by omega)) rfl ((sw_dEI (t := 63) (by omega) hst).trans (sw_iN _))⟩))))
  · rw [h5 other ho, hco, nI_add]
  · refine br_t rfl (br_f (by decide) (br_t rfl (br_t rfl ?_)))
    refine sw_L965 (c := c) (g := sw_gg p c g) hP hst hl hm hw hr hc (fun i hi => (hpc i hi).2) h5 hid h6 (fun i hi => sw_ggB (by decide) (hgb i hi)) ho (by omega) ?_
    unfold sw_gg
    rw [hgo, hco]
    by_cases y : 0 < far
    · rw [if_pos y, if_pos (by omega)]
    · rw [if_neg y, if_neg (by omega)]
end
section
/-! the events that arrive late: time 63, to one source after the other -/
def sw_EV (c p : Nat → Nat) (a1 a2 a3 : Nat → Int32) : Prop :=
  (∀ i, i < 3 → a1 i = nI (c i)) ∧ (∀ i, i < 3 → p i ≤ c i) ∧ (∀ i, i < 3 → c i ≤ 20) ∧ (∀ i, i < 3 → ∀ q, p i ≤ q → q < c i → a2 (20 * i + q) = nI 63 ∧ ∃ k, k < 4 ∧ a3 (20 * i + q) = nI k)
theorem sw_EVs {c p : Nat → Nat} {a1 a2 a3 : Nat → Int32} {s n k : Nat} (h : sw_EV (sw_cc c s n) p a1 a2 a3) (hs : s < 3) (hk : k < 4) (hn : c s + n < 20) :
    sw_EV (sw_cc c s (n + 1)) p (upd a1 s (nI (c s + n + 1))) (upd a2 (20 * s + (c s + n)) (nI 63)) (upd a3 (20 * s + (c s + n)) (nI k)) := by
  obtain ⟨h1, h2, h3, h4⟩ := h
  have g2 := h2 s hs
  rw [sw_ccS] at g2
  refine ⟨fun i hi => ?_, fun i hi => ?_, fun i hi => ?_, fun i hi q hq1 hq2 => ?_⟩
  · by_cases y : i = s
    · rw [y, pk_us, sw_ccS]
      rfl
    · rw [pk_un y, sw_ccN y, h1 i hi, sw_ccN y]
  · by_cases y : i = s
    · rw [y, sw_ccS]
      omega
    · have := h2 i hi
      rw [sw_ccN y] at this
      rw [sw_ccN y]
      exact this
  · by_cases y : i = s
    · rw [y, sw_ccS]
      omega
    · have := h3 i hi
      rw [sw_ccN y] at this
      rw [sw_ccN y]
      exact this
  · by_cases y : i = s
    · subst y
      rw [sw_ccS] at hq2
      by_cases x : q = c i + n
      · subst x
        rw [pk_us, pk_us]
        exact ⟨rfl, k, hk, rfl⟩
      · rw [pk_un (by omega), pk_un (by omega)]
        exact h4 i hi q hq1 (by rw [sw_ccS]; omega)
    · have g3 := h3 i hi
      rw [sw_ccN y] at hq2 g3
      rw [pk_un (by omega), pk_un (by omega)]
      exact h4 i hi q hq1 (by rw [sw_ccN y]; exact hq2)
theorem sw_v8 : ∀ i, i < 8 → (¬ nI i < (-50) ∧ nI i ≤ 50) ∧ (¬ -nI i < (-50) ∧ -nI i ≤ 50) := by decide
theorem sw_code (s k : Nat) : ((256 : Int32) * nI s + Int32.ofNat (64 * k)) + 63 = nI (256 * s + 64 * k + 63) := by
  rw [show (256 : Int32) = nI 256 from rfl, pk_mul, sw_addL]
  exact nI_add _ 63
theorem sw_L765 {post : Int32 → St0 → Prop} {mc ms kc ks : Nat} {st lt lc nw rc : Nat} {mk : Int} {km kl kw kr tc ts tl tm : Int32} {a1 a2 a3 a4 a5 a6 a7 a8 a9 a10 a11 a12 a13 a14 a15 a16 a17 a18 a19 a20 a21 a22 a23 a24 : Nat → Int32} {c p : Nat → Nat} {g : Nat → Int} {two three top other last far near : Nat} (hP : post 1 ()) (hst : 1 ≤ st ∧ st ≤ 8) (hl : lt ≤ 20) (hm : -1000 ≤ mk ∧ mk ≤ 63) (hw : nw ≤ 64) (hr : rc ≤ 4 * nw) (hmw : mk < (((nw + 1) * st : Nat) : Int)) (hlc : lc < 1000)
    (hev : sw_EV c p a1 a2 a3) (hp : ∀ i, i < 3 → a5 i = nI (p i)) (htot : c 0 - p 0 + (c 1 - p 1) + (c 2 - p 2) = far) (hid : ∀ i, i < 3 → ¬ a7 i = 0)
    (hg : ∀ i, i < 3 → a6 i = sw_i (g i)) (hgb : ∀ i, i < 3 → 0 ≤ g i ∧ g i ≤ 63)
    (ho : other < 3) (hla : last < 3) (hol : other ≠ last) (hf : far < 8) (hn : near < 4) (hco : c other = p other + far) (hcl : c last ≤ 10) (hgo : g other = (sw_tm top two three other : Int)) (hpo : p other = if other = 0 then 2 else 1) :
    ∃ n, wL_lawOf_765 post mc ms (nI st) (nI lt) (nI two) (nI three) (nI top) (nI other) (nI last) (sw_i mk) (nI far) (nI near) kc ks n 0 0 (nI st) 1 (nI lt) (sw_i mk) (nI lc) (nI nw) (nI rc) km kl kw kr tc ts tl tm a1 a2 a3 a4 a5 a6 a7 a8 a9 a10 a11 a12 a13 a14 a15 a16 a17 a18 a19 a20 a21 a22 a23 a24 := by
  have q0 := hev.2.1 0 (by omega)
  have q1 := hev.2.1 1 (by omega)
  have q2 := hev.2.1 2 (by omega)
  refine pk_loop (σ := (Nat → Int32) × (Nat → Int32) × (Nat → Int32) × (Nat → Int32)) (fun n i s => wL_lawOf_765 post mc ms (nI st) (nI lt) (nI two) (nI three) (nI top) (nI other) (nI last) (sw_i mk) (nI far) (nI near) kc ks n (nI i) 0 (nI st) 1 (nI lt) (sw_i mk) (nI lc) (nI nw) (nI rc) km kl kw kr tc ts tl tm s.1 s.2.1 s.2.2.1 s.2.2.2 a5 a6 a7 a8 a9 a10 a11 a12 a13 a14 a15 a16 a17 a18 a19 a20 a21 a22 a23 a24)
    (fun i s => sw_EV (sw_cc c last i) p s.1 s.2.1 s.2.2.1) near 0 (a1, a2, a3, a4) (by omega) (by rw [sw_cc0]; exact hev) ?_ ?_
  · rintro n ⟨b1, b2, b3, b4⟩ h
    obtain ⟨h1, h2, h3, h4⟩ := h
    have K : ∀ z : Int32, a5 other = z → wL_lawOf_840 post mc ms (nI st) (nI lt) (nI two) (nI three) (nI top) (nI other) (sw_i mk) (nI far) (nI near) (nI lc) (nI (p other)) (nI rc) z (a5 other) kc ks 0 (nI st) 1 (nI lt) (sw_i mk) (nI lc) (nI nw) (nI rc) km kl kw kr tc ts tl tm b1 b2 b3 b4 a5 a6 a7 a8 a9 a10 a11 a12 a13 a14 a15 a16 a17 a18 a19 a20 a21 a22 a23 a24 := by
      intro z hz
      refine sw_L840 (c := sw_cc c last near) hP hst hl hm hw hr hmw hlc h1 hp (fun i hi => ⟨h2 i hi, h3 i hi⟩) ?_ hid h4 hg hgb ho hf hn ?_ hgo hz
      · rw [sw_ccSumC hla q0 q1 q2, htot]
      · rw [sw_ccN hol, hco]
    refine pk_le near near (fun _ => sw_lateO (sw_pos ho (sw_resO (sw_pos ho ?_)))) (fun z => absurd z (by omega))
    rw [show a5 other = nI (p other) from hp other ho] at K ⊢
    refine pk_eq other 0 (fun z => K _ ?_) (fun z => K _ ?_)
    · rw [hpo, if_pos z]
      rfl
    · rw [hpo, if_neg z]
      rfl
  · rintro n i ⟨b1, b2, b3, b4⟩ hi h ih
    have h' : sw_EV (sw_cc c last i) p b1 b2 b3 := h
    have hv := (sw_v8 i (by omega)).2
    have h1' : b1 last = nI (c last + i) := by rw [h'.1 last hla, sw_ccS]
    refine pk_le near i (fun z => absurd z (by omega)) (fun _ => ?_)
    refine sw_arrive (s := last) (t := 63) (k := 2) (c := c last + i) hla (by omega) (by omega) (sw_code last 2) h1' (by omega) hv.1 hv.2 (fun r => nm_r (nI_1 i) (ih (_, _, _, _) ?_))
    exact sw_EVs h' hla (by omega) (by omega)
theorem sw_L729 {post : Int32 → St0 → Prop} {mc ms kc ks : Nat} {st lt lc nw rc : Nat} {mk : Int} {km kl kw kr tc ts tl tm : Int32} {a1 a2 a3 a4 a5 a6 a7 a8 a9 a10 a11 a12 a13 a14 a15 a16 a17 a18 a19 a20 a21 a22 a23 a24 : Nat → Int32} {p : Nat → Nat} {g : Nat → Int} {two three top other last far near : Nat} (hP : post 1 ()) (hst : 1 ≤ st ∧ st ≤ 8) (hl : lt ≤ 20) (hm : -1000 ≤ mk ∧ mk ≤ 63) (hw : nw ≤ 64) (hr : rc ≤ 4 * nw) (hmw : mk < (((nw + 1) * st : Nat) : Int)) (hlc : lc < 1000)
    (hc : ∀ i, i < 3 → a1 i = nI (p i)) (hp : ∀ i, i < 3 → a5 i = nI (p i)) (hp2 : ∀ i, i < 3 → p i ≤ 2) (hid : ∀ i, i < 3 → ¬ a7 i = 0)
    (hg : ∀ i, i < 3 → a6 i = sw_i (g i)) (hgb : ∀ i, i < 3 → 0 ≤ g i ∧ g i ≤ 63)
    (ho : other < 3) (hla : last < 3) (hol : other ≠ last) (hf : far < 8) (hn : near < 4) (hgo : g other = (sw_tm top two three other : Int)) (hpo : p other = if other = 0 then 2 else 1) :
    ∃ n, wL_lawOf_729 post mc ms (nI st) (nI lt) (nI two) (nI three) (nI top) (nI other) (nI last) (sw_i mk) (nI far) (nI near) kc ks n 0 0 (nI st) 1 (nI lt) (sw_i mk) (nI lc) (nI nw) (nI rc) km kl kw kr tc ts tl tm a1 a2 a3 a4 a5 a6 a7 a8 a9 a10 a11 a12 a13 a14 a15 a16 a17 a18 a19 a20 a21 a22 a23 a24 := by
  have po := hp2 other ho
  refine pk_loop (σ := (Nat → Int32) × (Nat → Int32) × (Nat → Int32) × (Nat → Int32)) (fun n i s => wL_lawOf_729 post mc ms (nI st) (nI lt) (nI two) (nI three) (nI top) (nI other) (nI last) (sw_i mk) (nI far) (nI near) kc ks n (nI i) 0 (nI st) 1 (nI lt) (sw_i mk) (nI lc) (nI nw) (nI rc) km kl kw kr tc ts tl tm s.1 s.2.1 s.2.2.1 s.2.2.2 a5 a6 a7 a8 a9 a10 a11 a12 a13 a14 a15 a16 a17 a18 a19 a20 a21 a22 a23 a24)
    (fun i s => sw_EV (sw_cc p other i) p s.1 s.2.1 s.2.2.1) far 0 (a1, a2, a3, a4) (by omega) ?_ ?_ ?_
  · rw [sw_cc0]
    exact ⟨hc, fun i _ => Nat.le_refl _, fun i hi => by have := hp2 i hi; omega, fun i hi q y1 y2 => absurd y1 (by omega)⟩
  · rintro n ⟨b1, b2, b3, b4⟩ h
    refine pk_le far far (fun _ => ?_) (fun z => absurd z (by omega))
    refine sw_L765 (c := sw_cc p other far) hP hst hl hm hw hr hmw hlc h hp ?_ hid hg hgb ho hla hol hf hn sw_ccS ?_ hgo hpo
    · rw [sw_ccSumC ho (Nat.le_refl _) (Nat.le_refl _) (Nat.le_refl _)]
      omega
    · rw [sw_ccN (fun y => hol y.symm)]
      have := hp2 last hla
      omega
  · rintro n i ⟨b1, b2, b3, b4⟩ hi h ih
    have h' : sw_EV (sw_cc p other i) p b1 b2 b3 := h
    have hv := (sw_v8 i (by omega)).1
    have h1' : b1 other = nI (p other + i) := by rw [h'.1 other ho, sw_ccS]
    refine pk_le far i (fun z => absurd z (by omega)) (fun _ => ?_)
    refine sw_arrive (s := other) (t := 63) (k := 1) (c := p other + i) ho (by omega) (by omega) (sw_code other 1) h1' (by omega) hv.1 hv.2 (fun r => nm_r (nI_1 i) (ih (_, _, _, _) ?_))
    exact sw_EVs h' ho (by omega) (by omega)
end
section
/-! the sources that are idle -/
def sw_gm (top two three : Nat) : Nat → Int := fun i => ((sw_tm top two three i : Nat) : Int)
def sw_pp : Nat → Nat := fun i => if i = 0 then 2 else 1
theorem sw_pp2 : ∀ i, i < 3 → sw_pp i ≤ 2 := by decide
theorem sw_gmB {top two three : Nat} (h0 : top < 64) (h1 : two < 64) (h2 : three < 64) : ∀ i, i < 3 → 0 ≤ sw_gm top two three i ∧ sw_gm top two three i ≤ 63 := by
  intro i hi
  unfold sw_gm sw_tm
  split
  · omega
  · split <;> omega
theorem sw_rcN {st : Nat} {mk : Int} {nw rc : Nat} {a8 b : Nat → Int32} {nw' rc' : Nat} {b' : Nat → Int32} (h : sw_CW st mk nw rc a8 b nw' rc' b') (hr : rc ≤ 4 * nw) : rc' ≤ 4 * nw' := by
  have := h.1.2.2.2.2.1
  omega
theorem sw_L658 {post : Int32 → St0 → Prop} {mc ms kc ks : Nat} {st lt lc nw rc : Nat} {mk : Int} {km kl kw kr tc ts tl tm : Int32} {a1 a2 a3 a4 a5 a6 a7 a8 a9 a10 a11 a12 a13 a14 a15 a16 a17 a18 a19 a20 a21 a22 a23 a24 : Nat → Int32} {x2 : Int32} {two three top who other last : Nat} {be : Int} (hP : post 1 ()) (hst : 1 ≤ st ∧ st ≤ 8) (hl : lt ≤ 20) (hm : -1000 ≤ mk ∧ mk ≤ 63) (hw : nw ≤ 64) (hr : rc ≤ 4 * nw) (hmw : mk < (((nw + 1) * st : Nat) : Int)) (hlc : lc < 1000)
    (hc : ∀ i, i < 3 → a1 i = nI (sw_pp i)) (hp : ∀ i, i < 3 → a5 i = nI (sw_pp i)) (hid : ∀ i, i < 3 → a7 i = 0) (ht0 : top < 64) (ht1 : two < 64) (ht2 : three < 64)
    (hg : ∀ i, i < 3 → a6 i = sw_i (sw_gm top two three i)) (hwh : who < 3) (ho : other < 3) (hla : last < 3) (hwo : who ≠ other) (hol : other ≠ last) (hwl : who ≠ last)
    (hmin : sw_gm top two three other - lt ≤ mk ∨ sw_gm top two three last - lt ≤ mk) (hbe : be = if sw_gm top two three last - lt ≤ mk then mk else sw_gm top two three last - lt) :
    wL_lawOf_658 post mc ms x2 (nI st) (nI lt) (nI two) (nI three) (nI top) (nI who) (nI other) (nI last) (sw_i be) kc ks 0 (nI st) 1 (nI lt) (sw_i mk) (nI lc) (nI nw) (nI rc) km kl kw kr tc ts tl tm a1 a2 a3 a4 a5 a6 a7 a8 a9 a10 a11 a12 a13 a14 a15 a16 a17 a18 a19 a20 a21 a22 a23 a24 := by
  have hgb := sw_gmB ht0 ht1 ht2
  have hgb' : ∀ i, i < 3 → -1000 ≤ sw_gm top two three i ∧ sw_gm top two three i ≤ 63 := fun i hi => by
    have := hgb i hi
    omega
  have bl := hgb last hla
  have bo := hgb other ho
  have hb : -1000 ≤ be ∧ be ≤ 63 := by
    rw [hbe]
    split <;> omega
  have e1 : sw_nm lt mk (sw_gm top two three 0) (sw_gm top two three 1) (sw_gm top two three 2) (upd a7 who 1 0) (upd a7 who 1 1) (upd a7 who 1 2) = mk := by
    rcases hmin with y | y
    · exact sw_nmS (g := sw_gm top two three) (d := upd a7 who 1) ho (by rw [pk_un (fun z => hwo z.symm)]; exact hid other ho) (by rw [sw_ownP bo.1]; exact y)
    · exact sw_nmS (g := sw_gm top two three) (d := upd a7 who 1) hla (by rw [pk_un (fun z => hwl z.symm)]; exact hid last hla) (by rw [sw_ownP bl.1]; exact y)
  have e2 : sw_nm lt mk (sw_gm top two three 0) (sw_gm top two three 1) (sw_gm top two three 2) (upd (upd a7 who 1) other 1 0) (upd (upd a7 who 1) other 1 1) (upd (upd a7 who 1) other 1 2) = be := by
    rw [hbe]
    refine sw_nmG (g := sw_gm top two three) (d := upd (upd a7 who 1) other 1) (sw_gm top two three last - lt) (by omega) (fun i hi hd => ?_) ⟨last, hla, ?_, (sw_ownP bl.1).symm⟩
    · by_cases y : i = other
      · rw [y, pk_us] at hd
        exact absurd hd (by decide)
      · by_cases y2 : i = who
        · rw [pk_un y, y2, pk_us] at hd
          exact absurd hd (by decide)
        · have y3 : i = last := by omega
          rw [y3, sw_ownP bl.1]
          exact Int.le_refl _
    · rw [pk_un (fun z => hol z.symm), pk_un (fun z => hwl z.symm)]
      exact hid last hla
  have hid3 : ∀ i, i < 3 → ¬ upd (upd (upd a7 who 1) other 1) last 1 i = 0 := fun i hi => by
    by_cases y : i = last
    · rw [y, pk_us]
      decide
    · by_cases y2 : i = other
      · rw [pk_un y, y2, pk_us]
        decide
      · have y3 : i = who := by omega
        rw [pk_un y, pk_un y2, y3, pk_us]
        decide
  have e3 : sw_nm lt be (sw_gm top two three 0) (sw_gm top two three 1) (sw_gm top two three 2) (upd (upd (upd a7 who 1) other 1) last 1 0) (upd (upd (upd a7 who 1) other 1) last 1 1) (upd (upd (upd a7 who 1) other 1) last 1 2) = be :=
    sw_nmI (hid3 0 (by omega)) (hid3 1 (by omega)) (hid3 2 (by omega))
  refine sw_idle (s := who) (d := 1) sw_nar1 hwh hst hl hm hw hr hg hgb' e1 (fun nw1 rc1 tc1 ts1 tl1 tm1 b1 hC1 => ?_)
  obtain ⟨y1, y2⟩ := sw_still hC1 hmw
  subst y1 y2
  refine sw_idle (s := other) (d := 1) sw_nar1 ho hst hl hm hw hr hg hgb' e2 (fun nw2 rc2 tc2 ts2 tl2 tm2 b2 hC2 => ?_)
  have hw2 : nw2 ≤ 64 := hC2.1.2.1
  have hr2 : rc2 ≤ 4 * nw2 := sw_rcN hC2 hr
  refine br_f (nI_pos (by omega)) (br_t rfl ?_)
  refine sw_idle (s := last) (d := 1) sw_nar1 hla hst hl hb hw2 hr2 hg hgb' e3 (fun nw3 rc3 tc3 ts3 tl3 tm3 b3 hC3 => ?_)
  obtain ⟨y3, y4⟩ := sw_still hC3 hC2.2
  subst y3 y4
  obtain ⟨far, hf, ef⟩ := pk_andE x2 (m := 7) 3 (by decide)
  obtain ⟨near, hn, en⟩ := pk_andE (x2 >>> ((3 : Int32) &&& 31)) (m := 3) 2 (by decide)
  refine br_t (by rw [Nat.sub_self]; rfl) (br_t rfl (nm_r ef (nm_r en ?_)))
  exact sw_L729 (p := sw_pp) (g := sw_gm top two three) hP hst hl hb hw2 hr2 hC2.2 hlc hc hp sw_pp2 hid3 hg hgb ho hla hol hf hn rfl rfl
theorem sw_L636 {post : Int32 → St0 → Prop} {mc ms kc ks : Nat} {st lt lc nw rc : Nat} {mk : Int} {km kl kw kr tc ts tl tm : Int32} {a1 a2 a3 a4 a5 a6 a7 a8 a9 a10 a11 a12 a13 a14 a15 a16 a17 a18 a19 a20 a21 a22 a23 a24 : Nat → Int32} {x2 : Int32} {two three top who other last gl : Nat} (hP : post 1 ()) (hst : 1 ≤ st ∧ st ≤ 8) (hl : lt ≤ 20) (hm : -1000 ≤ mk ∧ mk ≤ 63) (hw : nw ≤ 64) (hr : rc ≤ 4 * nw) (hmw : mk < (((nw + 1) * st : Nat) : Int)) (hlc : lc < 1000)
    (hc : ∀ i, i < 3 → a1 i = nI (sw_pp i)) (hp : ∀ i, i < 3 → a5 i = nI (sw_pp i)) (hid : ∀ i, i < 3 → a7 i = 0) (ht0 : top < 64) (ht1 : two < 64) (ht2 : three < 64)
    (hg : ∀ i, i < 3 → a6 i = sw_i (sw_gm top two three i)) (hwh : who < 3) (ho : other < 3) (hla : last < 3) (hwo : who ≠ other) (hol : other ≠ last) (hwl : who ≠ last)
    (hmin : sw_gm top two three other - lt ≤ mk ∨ sw_gm top two three last - lt ≤ mk) (hgl : sw_gm top two three last = (gl : Int)) :
    wL_lawOf_636 post mc ms x2 (nI st) (nI lt) (nI two) (nI three) (nI top) (nI who) (sw_i mk) (nI other) (nI last) (nI gl) kc ks 0 (nI st) 1 (nI lt) (sw_i mk) (nI lc) (nI nw) (nI rc) km kl kw kr tc ts tl tm a1 a2 a3 a4 a5 a6 a7 a8 a9 a10 a11 a12 a13 a14 a15 a16 a17 a18 a19 a20 a21 a22 a23 a24 := by
  have bl := sw_gmB ht0 ht1 ht2 last hla
  refine sw_ble ((gl : Int) - lt) mk (fun y => ?_) (fun y => ?_) (sw_subNN gl lt)
  · exact sw_L658 hP hst hl hm hw hr hmw hlc hc hp hid ht0 ht1 ht2 hg hwh ho hla hwo hol hwl hmin (by rw [hgl, if_pos y])
  · have h := sw_L658 (post := post) (mc := mc) (ms := ms) (kc := kc) (ks := ks) (x2 := x2) (km := km) (kl := kl) (kw := kw) (kr := kr) (tc := tc) (ts := ts) (tl := tl) (tm := tm) (a2 := a2) (a3 := a3) (a4 := a4) (a8 := a8) (a9 := a9) (a10 := a10) (a11 := a11) (a12 := a12) (a13 := a13) (a14 := a14) (a15 := a15) (a16 := a16) (a17 := a17) (a18 := a18) (a19 := a19) (a20 := a20) (a21 := a21) (a22 := a22) (a23 := a23) (a24 := a24) (be := (gl : Int) - lt) hP hst hl hm hw hr hmw hlc hc hp hid ht0 ht1 ht2 hg hwh ho hla hwo hol hwl hmin (by rw [hgl, if_neg (by omega)])
    rw [← sw_subNN] at h
    exact h
theorem sw_L550 {post : Int32 → St0 → Prop} {mc ms kc ks : Nat} {st lt lc nw rc : Nat} {mk : Int} {km kl kw kr tc ts tl tm : Int32} {a1 a2 a3 a4 a5 a6 a7 a8 a9 a10 a11 a12 a13 a14 a15 a16 a17 a18 a19 a20 a21 a22 a23 a24 : Nat → Int32} {x2 : Int32} {two three top who other last : Nat} {th left : Int} (hP : post 1 ()) (hst : 1 ≤ st ∧ st ≤ 8) (hl : lt ≤ 20) (hm : -1000 ≤ mk ∧ mk ≤ 63) (hw : nw ≤ 64) (hr : rc ≤ 4 * nw) (hlc : lc < 1000)
    (hc : ∀ i, i < 3 → a1 i = nI (sw_pp i)) (hp : ∀ i, i < 3 → a5 i = nI (sw_pp i)) (hid : ∀ i, i < 3 → a7 i = 0) (ht0 : top < 64) (ht1 : two < 64) (ht2 : three < 64)
    (hg : ∀ i, i < 3 → a6 i = sw_i (sw_gm top two three i)) (hwh : who < 3) (hoe : other = (who + 1) % 3) (hle : last = 3 - who - other)
    (hleft : (left = sw_gm top two three other ∧ left ≤ sw_gm top two three last) ∨ (left = sw_gm top two three last ∧ left ≤ sw_gm top two three other)) (hth : th = if left - lt ≤ mk then mk else left - lt) :
    wL_lawOf_550 post mc ms x2 (nI st) (nI lt) (nI two) (nI three) (nI top) (nI who) (sw_i th) kc ks 0 (nI st) 1 (nI lt) (sw_i mk) (nI lc) (nI nw) (nI rc) km kl kw kr tc ts tl tm a1 a2 a3 a4 a5 a6 a7 a8 a9 a10 a11 a12 a13 a14 a15 a16 a17 a18 a19 a20 a21 a22 a23 a24 := by
  have ho : other < 3 := by omega
  have hla : last < 3 := by omega
  have hwo : who ≠ other := by omega
  have hol : other ≠ last := by omega
  have hwl : who ≠ last := by omega
  have hgb := sw_gmB ht0 ht1 ht2
  have hgb' : ∀ i, i < 3 → -1000 ≤ sw_gm top two three i ∧ sw_gm top two three i ≤ 63 := fun i hi => by
    have := hgb i hi
    omega
  have bl := hgb last hla
  have bo := hgb other ho
  have hb : -1000 ≤ th ∧ th ≤ 63 := by
    rw [hth]
    split <;> omega
  have hlt : left - lt ≤ th := by
    rw [hth]
    split <;> omega
  have hmin : sw_gm top two three other - lt ≤ th ∨ sw_gm top two three last - lt ≤ th := by omega
  have e1 : sw_nm lt mk (sw_gm top two three 0) (sw_gm top two three 1) (sw_gm top two three 2) (upd a7 who 1 0) (upd a7 who 1 1) (upd a7 who 1 2) = th := by
    rw [hth]
    refine sw_nmG (g := sw_gm top two three) (d := upd a7 who 1) (left - lt) (by omega) (fun i hi hd => ?_) ?_
    · by_cases y : i = who
      · rw [y, pk_us] at hd
        exact absurd hd (by decide)
      · have y3 : i = last ∨ i = other := by omega
        rcases y3 with y3 | y3
        · rw [y3, sw_ownP bl.1]
          omega
        · rw [y3, sw_ownP bo.1]
          omega
    · rcases hleft with y | y
      · exact ⟨other, ho, by rw [pk_un (fun z => hwo z.symm)]; exact hid other ho, by rw [sw_ownP bo.1, y.1]⟩
      · exact ⟨last, hla, by rw [pk_un (fun z => hwl z.symm)]; exact hid last hla, by rw [sw_ownP bl.1, y.1]⟩
  have hid2 : ∀ i, i < 3 → upd (upd a7 who 1) who 0 i = 0 := fun i hi => by
    by_cases y : i = who
    · rw [y, pk_us]
    · rw [pk_un y, pk_un y]
      exact hid i hi
  have e2 : sw_nm lt th (sw_gm top two three 0) (sw_gm top two three 1) (sw_gm top two three 2) (upd (upd a7 who 1) who 0 0) (upd (upd a7 who 1) who 0 1) (upd (upd a7 who 1) who 0 2) = th := by
    rcases hmin with y | y
    · exact sw_nmS (g := sw_gm top two three) (d := upd (upd a7 who 1) who 0) ho (hid2 other ho) (by rw [sw_ownP bo.1]; exact y)
    · exact sw_nmS (g := sw_gm top two three) (d := upd (upd a7 who 1) who 0) hla (hid2 last hla) (by rw [sw_ownP bl.1]; exact y)
  have eo : (nI who + 1) - (nI who + 1) / 3 * 3 = nI other := by
    have h : nI (who + 1) - nI (who + 1) / nI 3 * nI 3 = nI ((who + 1) % 3) := pk_rem (by omega) (by omega) (by omega)
    rw [nI_1, hoe]
    exact h
  have el : (3 - nI who) - nI other = nI last := by
    have h : nI 3 - nI who = nI (3 - who) := pk_sub (by omega)
    have h2 : nI (3 - who) - nI other = nI (3 - who - other) := pk_sub (by omega)
    rw [hle, ← h2, ← h]
    rfl
  refine sw_idle (s := who) (d := 1) sw_nar1 hwh hst hl hm hw hr hg hgb' e1 (fun nw1 rc1 tc1 ts1 tl1 tm1 b1 hC1 => ?_)
  have hw1 : nw1 ≤ 64 := hC1.1.2.1
  have hr1 : rc1 ≤ 4 * nw1 := sw_rcN hC1 hr
  refine br_f (nI_pos (by omega)) (br_t rfl ?_)
  refine sw_idle (s := who) (d := 0) sw_nar0 hwh hst hl hb hw1 hr1 hg hgb' e2 (fun nw2 rc2 tc2 ts2 tl2 tm2 b2 hC2 => ?_)
  obtain ⟨y3, y4⟩ := sw_still hC2 hC1.2
  subst y3 y4
  refine br_t (by rw [Nat.sub_self]; rfl) (br_t rfl ⟨by decide, nm_r eo (nm_r el ?_)⟩)
  refine pk_eq last 0 (fun z => ?_) (fun z => pk_eq last 1 (fun z1 => ?_) (fun z1 => ?_))
  · exact sw_L636 hP hst hl hb hw1 hr1 hC1.2 hlc hc hp hid2 ht0 ht1 ht2 hg hwh ho hla hwo hol hwl hmin (by rw [sw_gm, sw_tm, if_pos z])
  · exact sw_L636 hP hst hl hb hw1 hr1 hC1.2 hlc hc hp hid2 ht0 ht1 ht2 hg hwh ho hla hwo hol hwl hmin (by rw [sw_gm, sw_tm, if_neg z, if_pos z1])
  · exact sw_L636 hP hst hl hb hw1 hr1 hC1.2 hlc hc hp hid2 ht0 ht1 ht2 hg hwh ho hla hwo hol hwl hmin (by rw [sw_gm, sw_tm, if_neg z, if_neg z1])
theorem sw_L528 {post : Int32 → St0 → Prop} {mc ms kc ks : Nat} {st lt lc nw rc : Nat} {mk : Int} {km kl kw kr tc ts tl tm : Int32} {a1 a2 a3 a4 a5 a6 a7 a8 a9 a10 a11 a12 a13 a14 a15 a16 a17 a18 a19 a20 a21 a22 a23 a24 : Nat → Int32} {x2 : Int32} {two three top who other last left : Nat} (hP : post 1 ()) (hst : 1 ≤ st ∧ st ≤ 8) (hl : lt ≤ 20) (hm : -1000 ≤ mk ∧ mk ≤ 63) (hw : nw ≤ 64) (hr : rc ≤ 4 * nw) (hlc : lc < 1000)
    (hc : ∀ i, i < 3 → a1 i = nI (sw_pp i)) (hp : ∀ i, i < 3 → a5 i = nI (sw_pp i)) (hid : ∀ i, i < 3 → a7 i = 0) (ht0 : top < 64) (ht1 : two < 64) (ht2 : three < 64)
    (hg : ∀ i, i < 3 → a6 i = sw_i (sw_gm top two three i)) (hwh : who < 3) (hoe : other = (who + 1) % 3) (hle : last = 3 - who - other) (hl64 : left < 64)
    (hleft : ((left : Int) = sw_gm top two three other ∧ (left : Int) ≤ sw_gm top two three last) ∨ ((left : Int) = sw_gm top two three last ∧ (left : Int) ≤ sw_gm top two three other)) :
    wL_lawOf_528 post mc ms x2 (nI st) (nI lt) (nI two) (nI three) (nI top) (sw_i mk) (nI who) (nI left) kc ks 0 (nI st) 1 (nI lt) (sw_i mk) (nI lc) (nI nw) (nI rc) km kl kw kr tc ts tl tm a1 a2 a3 a4 a5 a6 a7 a8 a9 a10 a11 a12 a13 a14 a15 a16 a17 a18 a19 a20 a21 a22 a23 a24 := by
  refine sw_ble ((left : Int) - lt) mk (fun y => ?_) (fun y => ?_) (sw_subNN left lt)
  · exact sw_L550 (th := mk) (left := (left : Int)) hP hst hl hm hw hr hlc hc hp hid ht0 ht1 ht2 hg hwh hoe hle hleft (by rw [if_pos y])
  · have h := sw_L550 (post := post) (mc := mc) (ms := ms) (kc := kc) (ks := ks) (x2 := x2) (km := km) (kl := kl) (kw := kw) (kr := kr) (tc := tc) (ts := ts) (tl := tl) (tm := tm) (a2 := a2) (a3 := a3) (a4 := a4) (a8 := a8) (a9 := a9) (a10 := a10) (a11 := a11) (a12 := a12) (a13 := a13) (a14 := a14) (a15 := a15) (a16 := a16) (a17 := a17) (a18 := a18) (a19 := a19) (a20 := a20) (a21 := a21) (a22 := a22) (a23 := a23) (a24 := a24) (th := (left : Int) - lt) (left := (left : Int)) hP hst hl hm hw hr hlc hc hp hid ht0 ht1 ht2 hg hwh hoe hle hleft (by rw [if_neg (by omega)])
    rw [← sw_subNN] at h
    exact h
theorem sw_L473 {post : Int32 → St0 → Prop} {mc ms kc ks : Nat} {st lt lc nw rc : Nat} {mk : Int} {km kl kw kr tc ts tl tm : Int32} {a1 a2 a3 a4 a5 a6 a7 a8 a9 a10 a11 a12 a13 a14 a15 a16 a17 a18 a19 a20 a21 a22 a23 a24 : Nat → Int32} {x1 x2 z0 z1 : Int32} {two three top : Nat} (hP : post 1 ()) (hst : 1 ≤ st ∧ st ≤ 8) (hl : lt ≤ 20) (hm : -1000 ≤ mk ∧ mk ≤ 63) (hw : nw ≤ 64) (hr : rc ≤ 4 * nw) (hlc : lc < 1000)
    (hc : ∀ i, i < 3 → a1 i = nI (sw_pp i)) (hp : ∀ i, i < 3 → a5 i = nI (sw_pp i)) (hid : ∀ i, i < 3 → a7 i = 0) (ht0 : top < 64) (ht1 : two < 64) (ht2 : three < 64)
    (hg : ∀ i, i < 3 → a6 i = sw_i (sw_gm top two three i)) (hz : z1 = z0) :
    wL_lawOf_473 post mc ms x1 x2 (nI st) (nI lt) (nI two) (nI three) (nI top) (sw_i mk) z0 z1 kc ks 0 (nI st) 1 (nI lt) (sw_i mk) (nI lc) (nI nw) (nI rc) km kl kw kr tc ts tl tm a1 a2 a3 a4 a5 a6 a7 a8 a9 a10 a11 a12 a13 a14 a15 a16 a17 a18 a19 a20 a21 a22 a23 a24 := by
  obtain ⟨j, hj, ej⟩ := pk_andE (x1 >>> ((6 : Int32) &&& 31)) (m := 255) 8 (by decide)
  have ew : ((x1 >>> ((6 : Int32) &&& 31)) &&& 255) - ((x1 >>> ((6 : Int32) &&& 31)) &&& 255) / 3 * 3 = nI (j % 3) := by
    rw [ej]
    exact pk_rem (d := 3) (by omega) (by omega) (by omega)
  have hwh : j % 3 < 3 := Nat.mod_lt _ (by omega)
  refine br_t hz ⟨by decide, nm_r ew ?_⟩
  refine pk_eq (j % 3) 0 (fun z => ?_) (fun z => pk_eq (j % 3) 1 (fun z1 => ?_) (fun z1 => ?_))
  · refine sw_least two three (by omega) (by omega) (sw_L528 (other := 1) (last := 2) hP hst hl hm hw hr hlc hc hp hid ht0 ht1 ht2 hg hwh (by omega) (by omega) (by omega) ?_)
    show ((((min two three : Nat) : Int) = ((two : Nat) : Int)) ∧ (((min two three : Nat) : Int) ≤ ((three : Nat) : Int))) ∨ ((((min two three : Nat) : Int) = ((three : Nat) : Int)) ∧ (((min two three : Nat) : Int) ≤ ((two : Nat) : Int)))
    omega
  · refine sw_least top three (by omega) (by omega) (sw_L528 (other := 2) (last := 0) hP hst hl hm hw hr hlc hc hp hid ht0 ht1 ht2 hg hwh (by omega) (by omega) (by omega) ?_)
    show ((((min top three : Nat) : Int) = ((three : Nat) : Int)) ∧ (((min top three : Nat) : Int) ≤ ((top : Nat) : Int))) ∨ ((((min top three : Nat) : Int) = ((top : Nat) : Int)) ∧ (((min top three : Nat) : Int) ≤ ((three : Nat) : Int)))
    omega
  · refine sw_least top two (by omega) (by omega) (sw_L528 (other := 0) (last := 1) hP hst hl hm hw hr hlc hc hp hid ht0 ht1 ht2 hg hwh (by omega) (by omega) (by omega) ?_)
    show ((((min top two : Nat) : Int) = ((top : Nat) : Int)) ∧ (((min top two : Nat) : Int) ≤ ((two : Nat) : Int))) ∨ ((((min top two : Nat) : Int) = ((two : Nat) : Int)) ∧ (((min top two : Nat) : Int) ≤ ((top : Nat) : Int)))
    omega
end
section
/-! the second event of source 0 -/
theorem sw_L432 {post : Int32 → St0 → Prop} {mc ms kc ks : Nat} {st lt lc nw rc : Nat} {mk : Int} {km kl kw kr tc ts tl tm : Int32} {a1 a2 a3 a4 a5 a6 a7 a8 a9 a10 a11 a12 a13 a14 a15 a16 a17 a18 a19 a20 a21 a22 a23 a24 : Nat → Int32} {x1 x2 z0 z1 : Int32} {two three top E q : Nat} {mk0 : Int} (hP : post 1 ()) (hst : 1 ≤ st ∧ st ≤ 8) (hl : lt ≤ 20) (hm : -1000 ≤ mk ∧ mk ≤ 63) (hw : nw ≤ 64) (hr : rc ≤ 4 * nw) (hlc : lc < 1000)
    (hc : ∀ i, i < 3 → a1 i = nI (sw_pp i)) (hp : ∀ i, i < 3 → a5 i = nI (sw_pp i)) (hid : ∀ i, i < 3 → a7 i = 0) (ht0 : top < 64) (ht1 : two < 64) (ht2 : three < 64)
    (hg : ∀ i, i < 3 → a6 i = sw_i (sw_gm top two three i)) (hE : E ≤ 520) (hm0 : -1000 ≤ mk0 ∧ mk0 ≤ 63)
    (hq : ∀ w, nw ≤ w → w < 64 → (a8 (64 * 3 + w) ≤ 0 ↔ w ≠ q)) (hqc : sw_c nw q 64 = if (E : Int) ≤ mk0 ∨ (E : Int) ≤ mk then 0 else 1) (hz : z1 = z0) :
    wL_lawOf_432 post mc ms x1 x2 (nI st) (nI lt) (nI two) (nI three) (sw_i mk0) 0 (nI E) (nI rc) (nI top) (sw_i mk) z0 z1 kc ks 0 (nI st) 1 (nI lt) (sw_i mk) (nI lc) (nI nw) (nI rc) km kl kw kr tc ts tl tm a1 a2 a3 a4 a5 a6 a7 a8 a9 a10 a11 a12 a13 a14 a15 a16 a17 a18 a19 a20 a21 a22 a23 a24 := by
  refine br_t hz (br_t (Int32.sub_zero _).symm (sw_open (k := 3) (q := q) (by omega) hw hq (fun tc' ts' tl' tm' => ?_)))
  refine sw_ble (E : Int) mk0 (fun y => ?_) (fun y => sw_blt mk (E : Int) (fun y2 => ?_) (fun y2 => ?_) rfl (sw_iN E)) (sw_iN E)
  · exact sw_L473 hP hst hl hm hw hr hlc hc hp hid ht0 ht1 ht2 hg (by rw [hqc, if_pos (Or.inl y)]; rfl)
  · exact sw_L473 hP hst hl hm hw hr hlc hc hp hid ht0 ht1 ht2 hg (by rw [hqc, if_neg (by omega)]; rfl)
  · exact sw_L473 hP hst hl hm hw hr hlc hc hp hid ht0 ht1 ht2 hg (by rw [hqc, if_pos (Or.inr y2)]; rfl)
theorem sw_L403 {post : Int32 → St0 → Prop} {mc ms kc ks : Nat} {st lt lc nw rc : Nat} {mk : Int} {km kl kw kr tc ts tl tm : Int32} {a1 a2 a3 a4 a5 a6 a7 a8 a9 a10 a11 a12 a13 a14 a15 a16 a17 a18 a19 a20 a21 a22 a23 a24 : Nat → Int32} {x1 x2 : Int32} {two three top E q : Nat} {mk0 : Int} (hP : post 1 ()) (hst : 1 ≤ st ∧ st ≤ 8) (hl : lt ≤ 20) (hm : -1000 ≤ mk ∧ mk ≤ 63) (hw : nw ≤ 64) (hr : rc ≤ 4 * nw)
    (hc : ∀ i, i < 3 → a1 i = nI (sw_pp i)) (hp : ∀ i, i < 3 → a5 i = nI (sw_pp i)) (hid : ∀ i, i < 3 → a7 i = 0) (ht0 : top < 64) (ht1 : two < 64) (ht2 : three < 64)
    (hg : ∀ i, i < 3 → a6 i = sw_i (sw_gm top two three i)) (hE : E ≤ 520) (hm0 : -1000 ≤ mk0 ∧ mk0 ≤ 63)
    (hq : ∀ w, nw ≤ w → w < 64 → (a8 (64 * 3 + w) ≤ 0 ↔ w ≠ q)) (hqc : sw_c nw q 64 = if (E : Int) ≤ mk0 ∨ (E : Int) ≤ mk then 0 else 1) (hlc : lc = if (E : Int) ≤ mk0 then 1 else 0) :
    wL_lawOf_403 post mc ms x1 x2 (nI st) (nI lt) (nI two) (nI three) (sw_i mk0) 0 (nI E) (nI rc) (nI top) (sw_i mk) kc ks 0 (nI st) 1 (nI lt) (sw_i mk) (nI lc) (nI nw) (nI rc) km kl kw kr tc ts tl tm a1 a2 a3 a4 a5 a6 a7 a8 a9 a10 a11 a12 a13 a14 a15 a16 a17 a18 a19 a20 a21 a22 a23 a24 := by
  have hlc2 : lc < 1000 := by
    rw [hlc]
    split <;> omega
  refine br_t rfl (sw_blt mk0 (E : Int) (fun y => ?_) (fun y => ?_) rfl (sw_iN E))
  · exact sw_L432 hP hst hl hm hw hr hlc2 hc hp hid ht0 ht1 ht2 hg hE hm0 hq hqc (by rw [hlc, if_neg (by omega)]; rfl)
  · exact sw_L432 hP hst hl hm hw hr hlc2 hc hp hid ht0 ht1 ht2 hg hE hm0 hq hqc (by rw [hlc, if_pos y]; rfl)
theorem sw_L370 {post : Int32 → St0 → Prop} {mc ms kc ks : Nat} {st lt lc nw rc : Nat} {mk : Int} {km kl kw kr tc ts tl tm : Int32} {a1 a2 a3 a4 a5 a6 a7 a8 a9 a10 a11 a12 a13 a14 a15 a16 a17 a18 a19 a20 a21 a22 a23 a24 : Nat → Int32} {x1 x2 : Int32} {two three top E q : Nat} {mk0 : Int} (hP : post 1 ()) (hst : 1 ≤ st ∧ st ≤ 8) (hl : lt ≤ 20) (hm : -1000 ≤ mk ∧ mk ≤ 63) (hw : nw ≤ 64) (hr : rc ≤ 4 * nw)
    (hc : ∀ i, i < 3 → a1 i = nI (sw_pp i)) (hp : ∀ i, i < 3 → a5 i = nI (sw_pp i)) (hid : ∀ i, i < 3 → a7 i = 0) (ht0 : top < 64) (ht1 : two < 64) (ht2 : three < 64)
    (hg : ∀ i, i < 3 → a6 i = sw_i (sw_gm top two three i)) (hE : E ≤ 520) (hm0 : -1000 ≤ mk0 ∧ mk0 ≤ 63)
    (hq : ∀ w, nw ≤ w → w < 64 → (a8 (64 * 3 + w) ≤ 0 ↔ w ≠ q)) (hqc : sw_c nw q 64 = if (E : Int) ≤ mk0 ∨ (E : Int) ≤ mk then 0 else 1) (hlc : lc = if (E : Int) ≤ mk0 then 1 else 0)
    (hmk : mk = if ((min top (min two three) : Nat) : Int) - lt ≤ mk0 then mk0 else ((min top (min two three) : Nat) : Int) - lt) :
    wL_lawOf_370 post mc ms x1 x2 (nI st) (nI lt) (nI two) (nI three) (sw_i mk0) 0 (nI E) (nI rc) (nI top) kc ks 0 (nI st) 1 (nI lt) (sw_i mk) (nI lc) (nI nw) (nI rc) km kl kw kr tc ts tl tm a1 a2 a3 a4 a5 a6 a7 a8 a9 a10 a11 a12 a13 a14 a15 a16 a17 a18 a19 a20 a21 a22 a23 a24 := by
  refine sw_least two three (by omega) (by omega) (sw_least top (min two three) (by omega) (by omega) (nm_r (sw_subNN _ _) (sw_ble (((min top (min two three) : Nat) : Int) - lt) mk0 (fun y => ?_) (fun y => ?_))))
  · rw [if_pos y] at hmk
    rw [← hmk]
    rw [← hmk] at hqc hlc
    exact sw_L403 hP hst hl hm hw hr hc hp hid ht0 ht1 ht2 hg hE hm hq hqc hlc
  · rw [if_neg (by omega)] at hmk
    rw [← hmk]
    exact sw_L403 hP hst hl hm hw hr hc hp hid ht0 ht1 ht2 hg hE hm0 hq hqc hlc
/-- the panes when the first three events are read -/
def sw_A8 (st one two three : Nat) (a8 : Nat → Int32) : Prop :=
  (∀ w, w < 64 → (a8 (64 * 0 + w) ≤ 0 ↔ w ≠ one / st)) ∧ (∀ w, w < 64 → (a8 (64 * 1 + w) ≤ 0 ↔ w ≠ two / st)) ∧ (∀ w, w < 64 → (a8 (64 * 2 + w) ≤ 0 ↔ w ≠ three / st)) ∧ (∀ w, w < 64 → a8 (64 * 3 + w) = 0)
theorem sw_row {a : Nat → Int32} {k q : Nat} (hq : q < 64) (hz : ∀ w, w < 64 → a (64 * k + w) = 0) : ∀ w, w < 64 → (upd a (64 * k + q) (a (64 * k + q) + 1) (64 * k + w) ≤ 0 ↔ w ≠ q) := by
  intro w hw
  by_cases y : w = q
  · rw [y, pk_us, hz q hq]
    exact ⟨fun z => absurd z (by decide), fun z => absurd rfl z⟩
  · rw [pk_un (by omega), hz w hw]
    exact ⟨fun _ => y, fun _ => by decide⟩
theorem sw_rowN {a : Nat → Int32} {k k' q w : Nat} {x : Int32} (hq : q < 64) (hw : w < 64) (hk : k' ≠ k) : upd a (64 * k + q) x (64 * k' + w) = a (64 * k' + w) := pk_un (by omega)
theorem sw_upG {a6 : Nat → Int32} {g : Nat → Int} {s : Nat} {t : Int} (hg : ∀ i, i < 3 → a6 i = sw_i (g i)) : ∀ i, i < 3 → upd a6 s (sw_i (sw_up g s t s)) i = sw_i (sw_up g s t i) := by
  intro i hi
  by_cases z : i = s
  · rw [z, pk_us]
  · rw [pk_un z, sw_upN z, hg i hi]
theorem sw_L310 {post : Int32 → St0 → Prop} {mc ms kc ks : Nat} {st lt nw : Nat} {mk : Int} {km kl kw kr tc ts tl tm : Int32} {a1 a2 a3 a4 a5 a6 a7 a8 a9 a10 a11 a12 a13 a14 a15 a16 a17 a18 a19 a20 a21 a22 a23 a24 : Nat → Int32} {x1 x2 z0 z1 : Int32} {one two three : Nat} (hP : post 1 ()) (hst : 1 ≤ st ∧ st ≤ 8) (hl : lt ≤ 20) (hm : -1000 ≤ mk ∧ mk ≤ 63) (hw : nw ≤ 64) (hnw : ∀ w, w < nw → (((w + 1) * st : Nat) : Int) ≤ mk)
    (hc : ∀ i, i < 3 → a1 i = nI 1) (hp : ∀ i, i < 3 → a5 i = nI 1) (hid : ∀ i, i < 3 → a7 i = 0) (ht0 : one < 64) (ht1 : two < 64) (ht2 : three < 64)
    (hg : ∀ i, i < 3 → a6 i = sw_i (sw_gm one two three i)) (h8 : ∀ w, w < 64 → a8 (64 * 3 + w) = 0) (hz : z1 = z0) :
    wL_lawOf_310 post mc ms x1 x2 (nI st) (nI lt) (nI one) (nI two) (nI three) (sw_i mk) 0 z0 z1 kc ks 0 (nI st) 1 (nI lt) (sw_i mk) (nI 0) (nI nw) (nI 0) km kl kw kr tc ts tl tm a1 a2 a3 a4 a5 a6 a7 a8 a9 a10 a11 a12 a13 a14 a15 a16 a17 a18 a19 a20 a21 a22 a23 a24 := by
  obtain ⟨ag, ha, ea⟩ := pk_andE x1 (m := 63) 6 (by decide)
  have ha' : ag < 64 := ha
  have E8 : (ag / st + 1) * st ≤ 520 := sw_E8 (Nat.le_of_lt (sw_dlt ha')) hst.2
  have hq64 : ag / st < 64 := sw_dlt ha'
  have hgb := sw_gmB ht0 ht1 ht2
  refine br_t hz (nm_r ea ⟨nI_ne0 hst.1 (by omega), nm_r (sw_dEI ha' hst) ?_⟩)
  refine sw_arrive (s := 0) (t := ag) (k := 3) (c := 1) (by omega) ha' (by omega) ((sw_am 192 ag).trans (congrArg nI (by omega))) (hc 0 (by omega)) (by omega) (by decide) (by decide) (fun r => ?_)
  have hg0 : sw_up (sw_gm one two three) 0 ag 0 = if (ag : Int) ≤ one then (one : Int) else ag := rfl
  have hg1 : sw_up (sw_gm one two three) 0 ag 1 = two := rfl
  have hg2 : sw_up (sw_gm one two three) 0 ag 2 = three := rfl
  have key : ∀ top : Nat, top < 64 → (top : Int) = sw_up (sw_gm one two three) 0 ag 0 → ∀ (lc' nw' rc' : Nat) (tc' ts' tl' tm' : Int32) (a8' a9' a10' a11' b : Nat → Int32) (mk2 : Int), mk2 = (if ((min top (min two three) : Nat) : Int) - lt ≤ mk then mk else ((min top (min two three) : Nat) : Int) - lt) →
      sw_TK st mk 0 ag 3 (upd a4 (20 * 0 + 1) 7 (20 * 0 + 1)) a8 a9 lc' a8' a9' → sw_CW st mk2 nw 0 a8' a19 nw' rc' b →
      wL_lawOf_370 post mc ms x1 x2 (nI st) (nI lt) (nI two) (nI three) (sw_i mk) 0 (nI ((ag / st + 1) * st)) (nI (rc' - 0)) (nI top) kc ks 0 (nI st) 1 (nI lt) (sw_i mk2) (nI lc') (nI nw') (nI rc') km kl kw kr tc' ts' tl' tm' (upd a1 0 (nI (1 + 1))) (upd a2 (20 * 0 + 1) (nI ag)) (upd a3 (20 * 0 + 1) (nI 3)) (upd a4 (20 * 0 + 1) 7) (upd a5 0 (nI (1 + 1))) (upd a6 0 (sw_i (sw_up (sw_gm one two three) 0 ag 0))) a7 a8' a9' a10' a11' a12 a13 a14 a15 a16 a17 a18 b a20 a21 a22 a23 a24 := by
    intro top htop etop lc' nw' rc' tc' ts' tl' tm' a8' a9' a10' a11' b mk2 hmk2 hT hC
    have hm2 : -1000 ≤ mk2 ∧ mk2 ≤ 63 := by
      rw [hmk2]
      split <;> omega
    have hc' : ∀ i, i < 3 → upd a1 0 (nI (1 + 1)) i = nI (sw_pp i) := sw_3 rfl (by rw [pk_un (by decide)]; exact hc 1 (by omega)) (by rw [pk_un (by decide)]; exact hc 2 (by omega))
    have hp' : ∀ i, i < 3 → upd a5 0 (nI (1 + 1)) i = nI (sw_pp i) := sw_3 rfl (by rw [pk_un (by decide)]; exact hp 1 (by omega)) (by rw [pk_un (by decide)]; exact hp 2 (by omega))
    have hg' : ∀ i, i < 3 → upd a6 0 (sw_i (sw_up (sw_gm one two three) 0 ag 0)) i = sw_i (sw_gm top two three i) :=
      sw_3 (by rw [pk_us, ← etop]; rfl) (by rw [pk_un (by decide), hg 1 (by omega)]; rfl) (by rw [pk_un (by decide), hg 2 (by omega)]; rfl)
    rcases hT with ⟨t1, t2, t3, t4⟩ | ⟨t1, t2, t3, t4⟩
    · have hnq : nw ≤ ag / st := by
        by_cases y : ag / st < nw
        · have := hnw (ag / st) y
          omega
        · omega
      refine sw_L370 (q := ag / st) hP hst hl hm2 hC.1.2.1 (sw_rcN hC (by omega)) hc' hp' hid htop ht1 ht2 hg' E8 hm ?_ ?_ ?_ hmk2
      · intro w _ hw64
        rw [t3]
        exact sw_row hq64 h8 w hw64
      · by_cases y : ag / st < nw'
        · rw [if_pos (Or.inr (sw_past hC hnq y))]
          exact if_neg (by omega)
        · have y2 : ¬ (((ag / st + 1) * st : Nat) : Int) ≤ mk2 := fun z => y (sw_gone hC z)
          rw [if_neg (by omega)]
          exact if_pos (by omega)
      · rw [if_neg (by omega), t2]
    · refine sw_L370 (q := 64) hP hst hl hm2 hC.1.2.1 (sw_rcN hC (by omega)) hc' hp' hid htop ht1 ht2 hg' E8 hm ?_ ?_ ?_ hmk2
      · intro w _ hw64
        rw [t3, h8 w hw64]
        exact ⟨fun _ => by omega, fun _ => by decide⟩
      · rw [if_pos (Or.inl t1)]
        exact if_neg (by omega)
      · rw [if_pos t1, t2]
  have e : ∀ top : Nat, (top : Int) = sw_up (sw_gm one two three) 0 ag 0 → sw_nm lt mk (sw_up (sw_gm one two three) 0 ag 0) (sw_up (sw_gm one two three) 0 ag 1) (sw_up (sw_gm one two three) 0 ag 2) (a7 0) (a7 1) (a7 2) = (if ((min top (min two three) : Nat) : Int) - lt ≤ mk then mk else ((min top (min two three) : Nat) : Int) - lt) := by
    intro top etop
    have o0 : sw_own lt (sw_up (sw_gm one two three) 0 ag 0) = (top : Int) - lt := by rw [← etop]; exact sw_ownP (by omega)
    have o1 : sw_own lt (sw_up (sw_gm one two three) 0 ag 1) = (two : Int) - lt := by rw [hg1]; exact sw_ownP (by omega)
    have o2 : sw_own lt (sw_up (sw_gm one two three) 0 ag 2) = (three : Int) - lt := by rw [hg2]; exact sw_ownP (by omega)
    refine sw_nmG (g := sw_up (sw_gm one two three) 0 ag) (d := a7) (((min top (min two three) : Nat) : Int) - lt) (by omega) (sw_3 ?_ ?_ ?_) ?_
    · intro _
      rw [o0]
      omega
    · intro _
      rw [o1]
      omega
    · intro _
      rw [o2]
      omega
    · have h : min top (min two three) = top ∨ min top (min two three) = two ∨ min top (min two three) = three := by omega
      rcases h with h | h | h
      · exact ⟨0, by omega, hid 0 (by omega), by rw [o0, h]⟩
      · exact ⟨1, by omega, hid 1 (by omega), by rw [o1, h]⟩
      · exact ⟨2, by omega, hid 2 (by omega), by rw [o2, h]⟩
  refine sw_read (s := 0) (p := 1) (c := 1 + 1) (t := ag) (k := 3) (g := sw_gm one two three) (rc := 0) (lc := 0) (by omega) hst hl hm hw (by omega) pk_us (hp 0 (by omega)) (by omega) (by omega) pk_us ha' pk_us (by omega) hg (fun i hi => by have := hgb i hi; omega) rfl (fun lc' nw' rc' tc' ts' tl' tm' a8' a9' a10' a11' b hT hC => ?_)
  refine pk_le one ag (fun y => ?_) (fun y => ?_)
  · have et : (ag : Int) = sw_up (sw_gm one two three) 0 ag 0 := by
      rw [hg0]
      split <;> omega
    exact key ag ha' et lc' nw' rc' tc' ts' tl' tm' a8' a9' a10' a11' b _ (e ag et) hT hC
  · have et : (one : Int) = sw_up (sw_gm one two three) 0 ag 0 := by
      rw [hg0, if_pos (by omega)]
    exact key one ht0 et lc' nw' rc' tc' ts' tl' tm' a8' a9' a10' a11' b _ (e one et) hT hC
theorem sw_L233 {post : Int32 → St0 → Prop} {mc ms kc ks : Nat} {st lt nw : Nat} {mk : Int} {km kl kw kr tc ts tl tm : Int32} {a1 a2 a3 a4 a5 a6 a7 a8 a9 a10 a11 a12 a13 a14 a15 a16 a17 a18 a19 a20 a21 a22 a23 a24 : Nat → Int32} {x1 x2 : Int32} {one two three : Nat} (hP : post 1 ()) (hst : 1 ≤ st ∧ st ≤ 8) (hl : lt ≤ 20) (hm : -1000 ≤ mk ∧ mk ≤ 63) (hw : nw ≤ 64) (hnw : ∀ w, w < nw → (((w + 1) * st : Nat) : Int) ≤ mk)
    (hc : ∀ i, i < 3 → a1 i = nI 1) (hp : ∀ i, i < 3 → a5 i = nI 1) (hid : ∀ i, i < 3 → a7 i = 0) (ht0 : one < 64) (ht1 : two < 64) (ht2 : three < 64) (hmk : mk = ((min one (min two three) : Nat) : Int) - lt)
    (hg : ∀ i, i < 3 → a6 i = sw_i (sw_gm one two three i)) (h8 : sw_A8 st one two three a8) (h9 : a9 (64 * 1 + two / st) = 2) :
    wL_lawOf_233 post mc ms x1 x2 (nI st) (nI lt) (nI one) (nI two) (nI three) (sw_i mk) (nI ((one / st + 1) * st)) (nI ((two / st + 1) * st)) (nI ((three / st + 1) * st)) 0 kc ks 0 (nI st) 1 (nI lt) (sw_i mk) (nI 0) (nI nw) (nI 0) km kl kw kr tc ts tl tm a1 a2 a3 a4 a5 a6 a7 a8 a9 a10 a11 a12 a13 a14 a15 a16 a17 a18 a19 a20 a21 a22 a23 a24 := by
  have T0 := sw_tE one st hst.1
  have T1 := sw_tE two st hst.1
  have T2 := sw_tE three st hst.1
  have D0 : one / st < 64 := sw_dlt ht0
  have D1 : two / st < 64 := sw_dlt ht1
  have D2 : three / st < 64 := sw_dlt ht2
  have B0 : (one / st + 1) * st ≤ 520 := sw_E8 (Nat.le_of_lt D0) hst.2
  have B1 : (two / st + 1) * st ≤ 520 := sw_E8 (Nat.le_of_lt D1) hst.2
  have B2 : (three / st + 1) * st ≤ 520 := sw_E8 (Nat.le_of_lt D2) hst.2
  have N0 : nw ≤ one / st := by
    by_cases y : one / st < nw
    · have := hnw _ y
      omega
    · omega
  have N1 : nw ≤ two / st := by
    by_cases y : two / st < nw
    · have := hnw _ y
      omega
    · omega
  refine sw_blt mk (((two / st + 1) * st : Nat) : Int) (fun _ => ?_) (fun y => absurd y (by omega)) rfl (sw_iN _)
  refine sw_blt mk (((three / st + 1) * st : Nat) : Int) (fun _ => ?_) (fun y => absurd y (by omega)) rfl (sw_iN _)
  refine nm_r (e' := 0) (by decide) (br_t rfl ?_)
  refine sw_open (rc := 0) (lc := 0) (k := 0) (q := one / st) (by omega) hw (fun w _ hw64 => h8.1 w hw64) (fun tc' ts' tl' tm' => ?_)
  refine sw_blt mk (((one / st + 1) * st : Nat) : Int) (fun _ => ?_) (fun y => absurd y (by omega)) rfl (sw_iN _)
  refine br_t (by rw [show sw_c nw (one / st) 64 = 1 from if_pos ⟨N0, D0⟩]; rfl) ?_
  refine sw_pend (rc := 0) (lc := 0) (k := 1) (q := two / st) (by omega) N1 D1 (fun w _ y => (h8.2.1 w (by omega)).mpr (by omega)) (fun y => (h8.2.1 _ D1).mp y rfl) (fun tc2 ts2 tl2 tm2 => ?_)
  refine sw_blt mk (((two / st + 1) * st : Nat) : Int) (fun _ => ?_) (fun y => absurd y (by omega)) rfl (sw_iN _)
  exact sw_L310 hP hst hl hm hw hnw hc hp hid ht0 ht1 ht2 hg h8.2.2.2 (by rw [h9]; decide)
end
section
theorem sw_g3 (one two three : Nat) (h0 : one < 64) (h1 : two < 64) (h2 : three < 64) : ∀ i, i < 3 → sw_up (sw_up (sw_up (fun _ => -1000) 0 (one : Int)) 1 (two : Int)) 2 (three : Int) i = sw_gm one two three i := by
  refine sw_3 ?_ ?_ ?_
  · show (if (one : Int) ≤ -1000 then (-1000 : Int) else one) = one
    exact if_neg (by omega)
  · show (if (two : Int) ≤ -1000 then (-1000 : Int) else two) = two
    exact if_neg (by omega)
  · show (if (three : Int) ≤ -1000 then (-1000 : Int) else three) = three
    exact if_neg (by omega)
theorem sw_lawOf {post : Int32 → St0 → Prop} (hP : post 1 ()) (p0 p1 p2 p3 : Int32) : wpL_lawOf post 25 5933 () p0 p1 p2 p3 := by
  obtain ⟨j, hj, ej⟩ := pk_andE p3 (m := 7) 3 (by decide)
  obtain ⟨l, hl0, el⟩ := pk_andE (p3 >>> ((3 : Int32) &&& 31)) (m := 255) 8 (by decide)
  obtain ⟨one, h0, e0⟩ := pk_andE p0 (m := 63) 6 (by decide)
  obtain ⟨two, h1, e1⟩ := pk_andE (p0 >>> ((6 : Int32) &&& 31)) (m := 63) 6 (by decide)
  obtain ⟨three, h2, e2⟩ := pk_andE (p0 >>> ((12 : Int32) &&& 31)) (m := 63) 6 (by decide)
  have ht0 : one < 64 := h0
  have ht1 : two < 64 := h1
  have ht2 : three < 64 := h2
  have est : 1 + (p3 &&& 7) = nI (1 + j) := by
    rw [ej]
    exact nI_add 1 j
  have elt : ((p3 >>> ((3 : Int32) &&& 31)) &&& 255) - ((p3 >>> ((3 : Int32) &&& 31)) &&& 255) / 21 * 21 = nI (l % 21) := by
    rw [el]
    exact pk_rem (d := 21) (by omega) (by omega) (by omega)
  have hst : 1 ≤ 1 + j ∧ 1 + j ≤ 8 := by omega
  have hl : l % 21 ≤ 20 := by omega
  generalize 1 + j = st at est hst
  generalize l % 21 = lt at elt hl
  have T0 := sw_tE one st hst.1
  have T1 := sw_tE two st hst.1
  have T2 := sw_tE three st hst.1
  have D0 : one / st < 64 := sw_dlt ht0
  have D1 : two / st < 64 := sw_dlt ht1
  have D2 : three / st < 64 := sw_dlt ht2
  have B0 : (one / st + 1) * st ≤ 520 := sw_E8 (Nat.le_of_lt D0) hst.2
  have M0 : (-1000 : Int) < (((0 + 1) * st : Nat) : Int) := by omega
  refine nm_r est ⟨by decide, nm_r elt ⟨by decide, by decide, 24, 5893, by decide, by decide, ?_⟩⟩
  refine sw_init (by decide) (by decide) hst hl (fun km kl kw kr a6 a20 a21 a22 a23 a24 h6 => ?_)
  refine nm_r e0 (nm_r e1 (nm_r e2 ?_))
  refine sw_arrive (s := 0) (t := one) (k := 0) (c := 0) (by omega) ht0 (by omega) (congrArg nI (by omega)) rfl (by omega) (by decide) (by decide) (fun r1 => ?_)
  refine sw_arrive (s := 1) (t := two) (k := 1) (c := 0) (by omega) ht1 (by omega) ((sw_am 320 two).trans (congrArg nI (by omega))) rfl (by omega) (by decide) (by decide) (fun r2 => ?_)
  refine sw_arrive (s := 2) (t := three) (k := 2) (c := 0) (by omega) ht2 (by omega) ((sw_am 640 three).trans (congrArg nI (by omega))) rfl (by omega) (by decide) (by decide) (fun r3 => ?_)
  have gb0 : ∀ i, i < 3 → -1000 ≤ (fun _ : Nat => (-1000 : Int)) i ∧ (fun _ : Nat => (-1000 : Int)) i ≤ 63 := fun i _ => by dsimp only; omega
  have gb1 : ∀ i, i < 3 → -1000 ≤ sw_up (fun _ => -1000) 0 (one : Int) i ∧ sw_up (fun _ => -1000) 0 (one : Int) i ≤ 63 := by
    intro i _
    unfold sw_up
    dsimp only
    split
    · split <;> omega
    · omega
  have gb2 : ∀ i, i < 3 → -1000 ≤ sw_up (sw_up (fun _ => -1000) 0 (one : Int)) 1 (two : Int) i ∧ sw_up (sw_up (fun _ => -1000) 0 (one : Int)) 1 (two : Int) i ≤ 63 := by
    intro i hi
    by_cases y : i = 1
    · have := gb1 1 (by omega)
      rw [y, sw_upS]
      split <;> omega
    · rw [sw_upN y]
      exact gb1 i hi
  have N1 : sw_nm lt (-1000) (sw_up (fun _ => -1000) 0 (one : Int) 0) (sw_up (fun _ => -1000) 0 (one : Int) 1) (sw_up (fun _ => -1000) 0 (one : Int) 2) 0 0 0 = -1000 :=
    sw_nmS (g := sw_up (fun _ => -1000) 0 (one : Int)) (d := fun _ => 0) (i := 2) (by omega) rfl (by rw [sw_upN (by decide)]; exact Int.le_of_eq (if_pos rfl))
  have N2 : sw_nm lt (-1000) (sw_up (sw_up (fun _ => -1000) 0 (one : Int)) 1 (two : Int) 0) (sw_up (sw_up (fun _ => -1000) 0 (one : Int)) 1 (two : Int) 1) (sw_up (sw_up (fun _ => -1000) 0 (one : Int)) 1 (two : Int) 2) 0 0 0 = -1000 :=
    sw_nmS (g := sw_up (sw_up (fun _ => -1000) 0 (one : Int)) 1 (two : Int)) (d := fun _ => 0) (i := 2) (by omega) rfl (by rw [sw_upN (by decide), sw_upN (by decide)]; exact Int.le_of_eq (if_pos rfl))
  have N3 : sw_nm lt (-1000) (sw_up (sw_up (sw_up (fun _ => -1000) 0 (one : Int)) 1 (two : Int)) 2 (three : Int) 0) (sw_up (sw_up (sw_up (fun _ => -1000) 0 (one : Int)) 1 (two : Int)) 2 (three : Int) 1) (sw_up (sw_up (sw_up (fun _ => -1000) 0 (one : Int)) 1 (two : Int)) 2 (three : Int) 2) 0 0 0 = ((min one (min two three) : Nat) : Int) - lt := by
    rw [sw_g3 one two three ht0 ht1 ht2 0 (by omega), sw_g3 one two three ht0 ht1 ht2 1 (by omega), sw_g3 one two three ht0 ht1 ht2 2 (by omega)]
    have o0 : sw_own lt (sw_gm one two three 0) = (one : Int) - lt := sw_ownP (show (0 : Int) ≤ (one : Int) by omega)
    have o1 : sw_own lt (sw_gm one two three 1) = (two : Int) - lt := sw_ownP (show (0 : Int) ≤ (two : Int) by omega)
    have o2 : sw_own lt (sw_gm one two three 2) = (three : Int) - lt := sw_ownP (show (0 : Int) ≤ (three : Int) by omega)
    have h := sw_nmG (lt := lt) (mk := -1000) (g := sw_gm one two three) (d := fun _ => 0) (((min one (min two three) : Nat) : Int) - lt) (by omega) (sw_3 (fun _ => by rw [o0]; omega) (fun _ => by rw [o1]; omega) (fun _ => by rw [o2]; omega)) (by
      have h : min one (min two three) = one ∨ min one (min two three) = two ∨ min one (min two three) = three := by omega
      rcases h with h | h | h
      · exact ⟨0, by omega, rfl, by rw [o0, h]⟩
      · exact ⟨1, by omega, rfl, by rw [o1, h]⟩
      · exact ⟨2, by omega, rfl, by rw [o2, h]⟩)
    rw [if_neg (by omega)] at h
    exact h
  -- the first event
  refine sw_read (s := 0) (p := 0) (c := 1) (t := one) (k := 0) (g := fun _ => -1000) (mk := -1000) (lc := 0) (nw := 0) (rc := 0) (by omega) hst hl (by omega) (by omega) (by omega) rfl rfl (by omega) (by omega) rfl ht0 rfl (by omega) h6 gb0 N1 (fun lc1 nw1 rc1 tc1 ts1 tl1 tm1 b8 b9 b10 b11 bb hT1 hC1 => ?_)
  obtain ⟨n1, r1'⟩ := sw_still hC1 M0
  subst n1 r1'
  rcases hT1 with ⟨t1, t2, t3, t4⟩ | ⟨t1, t2, t3, t4⟩
  rotate_left 1
  · exact absurd t1 (by omega)
  subst t2 t3 t4
  refine br_t rfl (br_t sw_m1000 ?_)
  -- the second
  refine sw_read (s := 1) (p := 0) (c := 1) (t := two) (k := 1) (g := sw_up (fun _ => -1000) 0 (one : Int)) (mk := -1000) (lc := 0) (nw := 0) (rc := 0) (by omega) hst hl (by omega) (by omega) (by omega) rfl rfl (by omega) (by omega) rfl ht1 rfl (by omega) (sw_upG h6) gb1 N2 (fun lc2 nw2 rc2 tc2 ts2 tl2 tm2 c8 c9 c10 c11 cb hT2 hC2 => ?_)
  obtain ⟨n2, r2'⟩ := sw_still hC2 M0
  subst n2 r2'
  rcases hT2 with ⟨t1', t2, t3, t4⟩ | ⟨t1', t2, t3, t4⟩
  rotate_left 1
  · exact absurd t1' (by omega)
  subst t2 t3 t4
  refine br_t rfl (br_t sw_m1000 ?_)
  -- the third
  refine sw_read (s := 2) (p := 0) (c := 1) (t := three) (k := 2) (g := sw_up (sw_up (fun _ => -1000) 0 (one : Int)) 1 (two : Int)) (mk := -1000) (lc := 0) (nw := 0) (rc := 0) (by omega) hst hl (by omega) (by omega) (by omega) rfl rfl (by omega) (by omega) rfl ht2 rfl (by omega) (sw_upG (sw_upG h6)) gb2 N3 (fun lc3 nw3 rc3 tc3 ts3 tl3 tm3 d8 d9 d10 d11 db hT3 hC3 => ?_)
  rcases hT3 with ⟨t1'', t2, t3, t4⟩ | ⟨t1'', t2, t3, t4⟩
  rotate_left 1
  · exact absurd t1'' (by omega)
  subst t2
  have h8 : sw_A8 st one two three d8 := by
    rw [t3]
    refine ⟨fun w hw => ?_, fun w hw => ?_, fun w hw => ?_, fun w hw => ?_⟩
    · rw [sw_rowN D2 hw (by decide), sw_rowN D1 hw (by decide)]
      exact sw_row D0 (fun _ _ => rfl) w hw
    · rw [sw_rowN D2 hw (by decide)]
      exact sw_row D1 (fun v hv => sw_rowN D0 hv (by decide)) w hw
    · exact sw_row D2 (fun v hv => by rw [sw_rowN D1 hv (by decide), sw_rowN D0 hv (by decide)]) w hw
    · rw [sw_rowN D2 hw (by decide), sw_rowN D1 hw (by decide), sw_rowN D0 hw (by decide)]
  have h9 : d9 (64 * 1 + two / st) = 2 := by
    rw [t4, sw_rowN D2 D1 (by decide), pk_us, sw_rowN D0 D1 (by decide)]
    decide
  have hr3 : rc3 = 0 := by
    by_cases y : rc3 = 0
    · exact y
    · obtain ⟨w, k, q1, q2, q3, q4⟩ := hC3.1.2.2.2.2.2.2 y
      have hp := sw_past hC3 q1 q2
      have hw64 : w < 64 := Nat.lt_of_lt_of_le q2 hC3.1.2.1
      have hk : k = 0 ∨ k = 1 ∨ k = 2 ∨ k = 3 := by omega
      rcases hk with hk | hk | hk | hk
      · subst hk
        have e : w = one / st := by
          by_cases z : w = one / st
          · exact z
          · exact absurd ((h8.1 w hw64).mpr z) q4
        subst e
        omega
      · subst hk
        have e : w = two / st := by
          by_cases z : w = two / st
          · exact z
          · exact absurd ((h8.2.1 w hw64).mpr z) q4
        subst e
        omega
      · subst hk
        have e : w = three / st := by
          by_cases z : w = three / st
          · exact z
          · exact absurd ((h8.2.2.1 w hw64).mpr z) q4
        subst e
        omega
      · subst hk
        exact absurd (by rw [h8.2.2.2 w hw64]; decide) q4
  subst hr3
  refine br_t (by decide) (sw_least two three (by omega) (by omega) (sw_least one (min two three) (by omega) (by omega) (nm_r (sw_subNN _ _) (br_t rfl (br_t rfl ⟨nI_ne0 hst.1 (by omega), nm_r (sw_dEI ht0 hst) ⟨nI_ne0 hst.1 (by omega), nm_r (sw_dEI ht1 hst) ⟨nI_ne0 hst.1 (by omega), nm_r (sw_dEI ht2 hst) ?_⟩⟩⟩)))))
  refine sw_blt (((min one (min two three) : Nat) : Int) - lt) (((one / st + 1) * st : Nat) : Int) (fun _ => ?_) (fun y => absurd y (by omega)) rfl (sw_iN _)
  refine sw_L233 hP hst hl (by omega) hC3.1.2.1 (fun w hw => sw_past hC3 (Nat.zero_le w) hw) (sw_3 rfl rfl rfl) (sw_3 rfl rfl rfl) (fun _ _ => rfl) ht0 ht1 ht2 rfl (fun i hi => ?_) h8 h9
  rw [sw_upG (sw_upG (sw_upG h6)) i hi, sw_g3 one two three ht0 ht1 ht2 i hi]
theorem sw_cell {post : Int32 → Prop} {L : Nat} {xs : Nat → Int32} {u : St0} (n : Nat) (hL : L ≤ 4) (hn : n < 1000) (H : ∀ x, post x) : wpL_cellAt post L xs u (nI n) :=
  pk_le L n (fun _ => H _) (fun z => ⟨pk_in n L z, H _⟩)
theorem i_vc (xs : Nat → Int32) (L : Nat) (hL : L ≤ 4) : wpL_law (fun r => r = 1) L xs :=
  sw_cell 0 hL (by omega) (fun p0 => sw_cell 1 hL (by omega) (fun p1 => sw_cell 2 hL (by omega) (fun p2 => sw_cell 3 hL (by omega) (fun p3 => ⟨25, 5933, by decide, by decide, sw_lawOf rfl p0 p1 p2 p3⟩))))
end
