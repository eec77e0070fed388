section
section RgNums
/-! stores, glued rows, numbers -/
theorem gu_us {f : Nat → Int32} {k : Nat} {x : Int32} : upd f k x k = x := if_pos rfl
theorem gu_un {f : Nat → Int32} {k j : Nat} {x : Int32} (h : j ≠ k) : upd f k x j = f j := if_neg h
theorem gu_same {f : Nat → Int32} {k : Nat} {x : Int32} (h : f k = x) : upd f k x = f := by
  funext j
  by_cases e : j = k
  · rw [e, gu_us, h]
  · rw [gu_un e]
/-- the row f with g laid over its cells b .. b + j - 1 -/
def gu_gl (b j : Nat) (f g : Nat → Int32) : Nat → Int32 := fun m => if b ≤ m ∧ m < b + j then g (m - b) else f m
theorem gu_gl0 (b : Nat) (f g : Nat → Int32) : gu_gl b 0 f g = f := by
  funext m
  show (if b ≤ m ∧ m < b + 0 then g (m - b) else f m) = f m
  rw [if_neg (by omega)]
theorem gu_gls (b j : Nat) (f g : Nat → Int32) : upd (gu_gl b j f g) (b + j) (g j) = gu_gl b (j + 1) f g := by
  funext m
  show (if m = b + j then g j else if b ≤ m ∧ m < b + j then g (m - b) else f m) = if b ≤ m ∧ m < b + (j + 1) then g (m - b) else f m
  by_cases h1 : m = b + j
  · subst h1
    rw [if_pos rfl, if_pos (by omega), Nat.add_sub_cancel_left]
  · rw [if_neg h1]
    by_cases h2 : b ≤ m ∧ m < b + j
    · rw [if_pos h2, if_pos (by omega)]
    · rw [if_neg h2, if_neg (by omega)]
theorem gu_gli {b j x : Nat} {f g : Nat → Int32} (h : x < j) : gu_gl b j f g (b + x) = g x := by
  show (if b ≤ b + x ∧ b + x < b + j then g (b + x - b) else f (b + x)) = g x
  rw [if_pos (by omega), Nat.add_sub_cancel_left]
theorem gu_glo {b j m : Nat} {f g : Nat → Int32} (h : m < b ∨ b + j ≤ m) : gu_gl b j f g m = f m := by
  show (if b ≤ m ∧ m < b + j then g (m - b) else f m) = f m
  rw [if_neg (by omega)]
theorem gu_glk {b j : Nat} {f g : Nat → Int32} (h : g j = f (b + j)) : gu_gl b j f g = gu_gl b (j + 1) f g := by
  rw [← gu_gls]
  exact (gu_same (by rw [gu_glo (by omega), h])).symm
theorem gu_gle {b j : Nat} {f g : Nat → Int32} (h : ∀ x, x < j → g x = f (b + x)) : gu_gl b j f g = f := by
  funext m
  by_cases h1 : m < b ∨ b + j ≤ m
  · exact gu_glo h1
  · obtain ⟨x, rfl⟩ : ∃ x, m = b + x := ⟨m - b, by omega⟩
    rw [gu_gli (by omega), h x (by omega)]
theorem gu_ix (t j : Nat) : nI t * 4 + nI j = nI (4 * t + j) := by
  rw [show nI t * 4 = nI (t * 4) from (Int32.ofNat_mul t 4).symm, nI_add, Nat.mul_comm]
theorem gu_t0 : (0 : Int32).toInt = 0 := by decide
theorem gu_t1 : (1 : Int32).toInt = 1 := by decide
theorem gu_t4 : (4 : Int32).toInt = 4 := by decide
theorem gu_t7 : (7 : Int32).toInt = 7 := by decide
theorem gu_tM : (-100 : Int32).toInt = -100 := by decide
theorem gu_tH : (100 : Int32).toInt = 100 := by decide
theorem gu_vb0 : vp_nar .boolean 0 = 0 := by decide
theorem gu_vb1 : vp_nar .boolean 1 = 1 := by decide
/-- branches by the integers behind -/
theorem gu_le {x y : Int32} {A B : Prop} (a b : Int) (hx : x.toInt = a) (hy : y.toInt = b) (f : a ≤ b → A) (g : b < a → B) : (x ≤ y → A) ∧ (¬ x ≤ y → B) := by
  subst hx hy
  rw [Int32.le_iff_toInt_le]
  exact ⟨f, fun z => g (by omega)⟩
theorem gu_lt {x y : Int32} {A B : Prop} (a b : Int) (hx : x.toInt = a) (hy : y.toInt = b) (f : a < b → A) (g : b ≤ a → B) : (x < y → A) ∧ (¬ x < y → B) := by
  subst hx hy
  rw [Int32.lt_iff_toInt_lt]
  exact ⟨f, fun z => g (by omega)⟩
theorem gu_eq {x y : Int32} {A B : Prop} (a b : Int) (hx : x.toInt = a) (hy : y.toInt = b) (f : a = b → A) (g : a ≠ b → B) : (x = y → A) ∧ (¬ x = y → B) := by
  subst hx hy
  rw [← Int32.toInt_inj]
  exact ⟨f, g⟩
theorem gu_n4 {j : Nat} (h : j < 4) : ¬ (4 : Int32) ≤ nI j := nI_ge (b := 4) h (by decide)
theorem gu_y4 {j : Nat} (h : j = 4) : (4 : Int32) ≤ nI j := by subst h; exact nI_le (a := 4) (Nat.le_refl _) (by decide)
theorem gu_add {x y : Int32} {a b : Int} (hx : x.toInt = a) (hy : y.toInt = b) (h1 : -1000 ≤ a + b) (h2 : a + b ≤ 1000) : (x + y).toInt = a + b := by
  subst hx hy
  rw [Int32.toInt_add]
  exact Int.bmod_eq_of_le (by omega) (by omega)
theorem gu_sub {x y : Int32} {a b : Int} (hx : x.toInt = a) (hy : y.toInt = b) (h1 : -1000 ≤ a - b) (h2 : a - b ≤ 1000) : (x - y).toInt = a - b := by
  subst hx hy
  rw [Int32.toInt_sub]
  exact Int.bmod_eq_of_le (by omega) (by omega)
theorem gu_neg {x : Int32} {a : Int} (hx : x.toInt = a) (h1 : -1000 ≤ a) (h2 : a ≤ 1000) : (-x).toInt = -a := by
  subst hx
  rw [Int32.toInt_neg]
  exact Int.bmod_eq_of_le (by omega) (by omega)
theorem gu_mask {v k : Int32} (hk : 0 ≤ k.toInt) : 0 ≤ (v &&& k).toInt ∧ (v &&& k).toInt ≤ k.toInt ∧ (0 ≤ v.toInt → (v &&& k).toInt ≤ v.toInt) := by
  have b0 : (0 : Int32).toInt = 0 := by decide
  obtain ⟨m, hm, rfl⟩ := nI_of (x := k) (by rw [Int32.lt_iff_toInt_lt, b0]; omega)
  have tm : (nI m).toBitVec.toNat = m := Nat.mod_eq_of_lt (by omega)
  have e : (v &&& nI m).toBitVec.toNat = v.toBitVec.toNat &&& m := by
    rw [Int32.toBitVec_and, BitVec.toNat_and, tm]
  have l1 : v.toBitVec.toNat &&& m ≤ m := Nat.and_le_right
  have l2 : v.toBitVec.toNat &&& m ≤ v.toBitVec.toNat := Nat.and_le_left
  have ti : (v &&& nI m).toInt = ((v.toBitVec.toNat &&& m : Nat) : Int) := by
    have z : (v &&& nI m).toInt = (v &&& nI m).toBitVec.toInt := rfl
    rw [z, BitVec.toInt_eq_toNat_of_lt (by rw [e]; omega), e]
  rw [ti, nI_toInt hm]
  refine ⟨by omega, by omega, fun hv => ?_⟩
  obtain ⟨w, hw, rfl⟩ := nI_of (x := v) (by rw [Int32.lt_iff_toInt_lt, b0]; omega)
  have tw : (nI w).toBitVec.toNat = w := Nat.mod_eq_of_lt (by omega)
  rw [nI_toInt hw]
  rw [tw] at l2 ⊢
  omega
theorem gu_and7 {v : Int32} (h0 : 0 ≤ v.toInt) (h7 : v.toInt ≤ 7) : v &&& 7 = v := by
  have b0 : (0 : Int32).toInt = 0 := by decide
  obtain ⟨w, hw, rfl⟩ := nI_of (x := v) (by rw [Int32.lt_iff_toInt_lt, b0]; omega)
  rw [nI_toInt hw] at h7
  have h8 : w < 8 := by omega
  have all : ∀ w : Nat, w < 8 → nI w &&& 7 = nI w := by decide
  exact all w h8
/-! sums of eight or fourteen -/
def gu_su (f : Nat → Nat) : Nat → Nat
  | 0 => 0
  | k + 1 => gu_su f k + f k
theorem gu_sule {f g : Nat → Nat} : ∀ k, (∀ x, x < k → f x ≤ g x) → gu_su f k ≤ gu_su g k := by
  intro k
  induction k with
  | zero => intro _; exact Nat.le_refl _
  | succ k ih =>
    intro h
    have h1 := ih (fun x hx => h x (by omega))
    have h2 := h k (by omega)
    show gu_su f k + f k ≤ gu_su g k + g k
    omega
theorem gu_sult {f g : Nat → Nat} : ∀ k, (∀ x, x < k → f x ≤ g x) → (∃ x, x < k ∧ f x < g x) → gu_su f k < gu_su g k := by
  intro k
  induction k with
  | zero => intro _ h; obtain ⟨x, hx, _⟩ := h; omega
  | succ k ih =>
    intro h hs
    show gu_su f k + f k < gu_su g k + g k
    obtain ⟨x, hx, hl⟩ := hs
    have h2 := h k (by omega)
    by_cases e : x = k
    · subst e
      have h1 := gu_sule x (fun y hy => h y (by omega))
      omega
    · have h1 := ih (fun x hx => h x (by omega)) ⟨x, by omega, hl⟩
      omega
theorem gu_sub' {f : Nat → Nat} {c : Nat} : ∀ k, (∀ x, x < k → f x ≤ c) → gu_su f k ≤ c * k := by
  intro k
  induction k with
  | zero => intro _; exact Nat.le_refl _
  | succ k ih =>
    intro h
    have h1 := ih (fun x hx => h x (by omega))
    have h2 := h k (by omega)
    show gu_su f k + f k ≤ c * (k + 1)
    rw [Nat.mul_succ]
    omega
end RgNums
end
section
section RgWalk
variable {n : Nat} {fe fp fc fk fm : Int32} {lw hg op fi se th ce va re le mo wi ft ns lo hi : Nat → Int32}
/-- no variable at hand is between bounds that exclude each other -/
def gu_PO (lo hi : Nat → Int32) : Prop := ∀ x, x < 4 → lo x ≤ hi x
def gu_CV (lo hi le mo : Nat → Int32) (t : Nat) : Prop := ∀ x, x < 4 → le (4 * t + x) ≤ lo x ∧ hi x ≤ mo (4 * t + x)
theorem gu_possL {post : Int32 → Prop} (h1 : gu_PO lo hi → post 1) (h0 : ¬ gu_PO lo hi → post 0) : ∀ d j, j + d = 4 → (∀ x, x < j → lo x ≤ hi x) → wX_possible_2 post (nI n) fe fp fc fk fm lw hg op fi se th ce va re le mo wi ft ns lo hi (d + 1) (nI j) := by
  intro d
  induction d with
  | zero =>
    intro j hj h
    have hj : j = 4 := by omega
    subst hj
    exact br_t (gu_y4 rfl) (h1 h)
  | succ d ih =>
    intro j hj h
    have c1 : (nI j).toNatClampNeg = j := nI_clamp (by omega)
    have v1 : vp_in (nI j) 4 := vp_in_nI (by omega) (by omega)
    refine br_f (gu_n4 (by omega)) ⟨v1, v1, ?_⟩
    rw [c1]
    refine br_c (fun g => nm_r (nI_1 j) (ih (j + 1) (by omega) (fun x hx => ?_))) (fun g => h0 fun p => g (p j (by omega)))
    by_cases e : x = j
    · rw [e]; exact g
    · exact h x (by omega)
theorem gu_poss {post : Int32 → Prop} (h1 : gu_PO lo hi → post 1) (h0 : ¬ gu_PO lo hi → post 0) : wpX_possible post (nI n, fe, fp, fc, fk, fm, lw, hg, op, fi, se, th, ce, va, re, le, mo, wi, ft, ns, lo, hi) :=
  ⟨5, gu_possL h1 h0 4 0 rfl (fun x hx => absurd hx (Nat.not_lt_zero x))⟩
theorem gu_takeL {post : SX → Prop} {i : Nat} (hi15 : i < 15) (H : ∀ lo' hi' : Nat → Int32, (∀ x, x < 4 → lo' x = le (4 * i + x) ∧ hi' x = mo (4 * i + x)) → post (nI n, fe, fp, fc, fk, fm, lw, hg, op, fi, se, th, ce, va, re, le, mo, wi, ft, ns, lo', hi')) : ∀ d j, j + d = 4 → ∀ lo hi : Nat → Int32, (∀ x, x < j → lo x = le (4 * i + x) ∧ hi x = mo (4 * i + x)) → wX_take_2 post (nI i) (nI n) fe fp fc fk fm (d + 1) (nI j) lw hg op fi se th ce va re le mo wi ft ns lo hi := by
  intro d
  induction d with
  | zero =>
    intro j hj lo hi h
    have hj : j = 4 := by omega
    subst hj
    exact br_t (gu_y4 rfl) (H lo hi h)
  | succ d ih =>
    intro j hj lo hi h
    have c1 : (nI j).toNatClampNeg = j := nI_clamp (by omega)
    have v1 : vp_in (nI j) 4 := vp_in_nI (by omega) (by omega)
    have e := gu_ix i j
    have c2 : (nI i * 4 + nI j).toNatClampNeg = 4 * i + j := by rw [e]; exact nI_clamp (by omega)
    have v2 : vp_in (nI i * 4 + nI j) 60 := by rw [e]; exact vp_in_nI (by omega) (by omega)
    refine br_f (gu_n4 (by omega)) ⟨v2, v1, nm_r (e' := upd lo j (le (4 * i + j))) (by rw [c1, c2]) ⟨v2, v1, nm_r (e' := upd hi j (mo (4 * i + j))) (by rw [c1, c2]) (nm_r (nI_1 j) (ih (j + 1) (by omega) _ _ (fun x hx => ?_)))⟩⟩
    by_cases e : x = j
    · rw [e, gu_us, gu_us]; exact ⟨rfl, rfl⟩
    · rw [gu_un e, gu_un e]; exact h x (by omega)
theorem gu_take {post : SX → Prop} {i : Nat} (hi15 : i < 15) (H : ∀ lo' hi' : Nat → Int32, (∀ x, x < 4 → lo' x = le (4 * i + x) ∧ hi' x = mo (4 * i + x)) → post (nI n, fe, fp, fc, fk, fm, lw, hg, op, fi, se, th, ce, va, re, le, mo, wi, ft, ns, lo', hi')) : wpX_take post (nI n, fe, fp, fc, fk, fm, lw, hg, op, fi, se, th, ce, va, re, le, mo, wi, ft, ns, lo, hi) (nI i) :=
  ⟨5, gu_takeL hi15 H 4 0 rfl lo hi (fun x hx => absurd hx (Nat.not_lt_zero x))⟩
/-! arrive -/
def gu_nl (w l o b : Int32) : Int32 := if l ≤ o then l else if w = 0 then o else b
def gu_nh (w m o b : Int32) : Int32 := if o ≤ m then m else if w = 0 then o else b
def gu_w (v : Int32) : Int32 := if v ≤ 4 then 0 else 1
def gu_nL (w : Int32) (le lo lw : Nat → Int32) (t : Nat) : Nat → Int32 := fun x => gu_nl w (le (4 * t + x)) (lo x) (lw x)
def gu_nH (w : Int32) (mo hi hg : Nat → Int32) (t : Nat) : Nat → Int32 := fun x => gu_nh w (mo (4 * t + x)) (hi x) (hg x)
theorem gu_ar0 {post : SX → Prop} {t : Nat} (ht : t < 15) (h0 : re t = 0) (w : Int32) (H : post (nI n, fe, fp, fc, fk, 1, lw, hg, op, fi, se, th, ce, va, upd re t 1, gu_gl (4 * t) 4 le lo, gu_gl (4 * t) 4 mo hi, upd wi t (wi t + 1), ft, ns, lo, hi)) : ∀ d j, j + d = 4 → wX_arrive_53 post (nI t) w (nI n) fe fp fc fk fm (d + 1) 1 (nI j) lw hg op fi se th ce va re (gu_gl (4 * t) j le lo) (gu_gl (4 * t) j mo hi) wi ft ns lo hi := by
  have ct : (nI t).toNatClampNeg = t := nI_clamp (by omega)
  have vt : vp_in (nI t) 15 := vp_in_nI (by omega) (by omega)
  intro d
  induction d with
  | zero =>
    intro j hj
    have hj : j = 4 := by omega
    subst hj
    exact br_t (gu_y4 rfl) ⟨vt, nm_r (e' := upd re t 1) (by rw [ct, gu_vb1]) (br_f (by decide) ⟨vt, vt, nm_r (e' := upd wi t (wi t + 1)) (by rw [ct]) H⟩)⟩
  | succ d ih =>
    intro j hj
    have c1 : (nI j).toNatClampNeg = j := nI_clamp (by omega)
    have v1 : vp_in (nI j) 4 := vp_in_nI (by omega) (by omega)
    have c2 : (nI (4 * t + j)).toNatClampNeg = 4 * t + j := nI_clamp (by omega)
    have v2 : vp_in (nI (4 * t + j)) 60 := vp_in_nI (by omega) (by omega)
    exact br_f (gu_n4 (by omega)) (nm_r (gu_ix t j) ⟨vt, br_t (by rw [ct]; exact h0) ⟨v1, v2, nm_r (e' := gu_gl (4 * t) (j + 1) le lo) (by rw [c1, c2, gu_gls]) ⟨v1, v2, nm_r (e' := gu_gl (4 * t) (j + 1) mo hi) (by rw [c1, c2, gu_gls]) (nm_r (nI_1 j) (ih (j + 1) (by omega)))⟩⟩⟩)
theorem gu_155 {post : SX → Prop} {J : Int32 → Int32 → (Nat → Int32) → (Nat → Int32) → (Nat → Int32) → (Nat → Int32) → (Nat → Int32) → (Nat → Int32) → (Nat → Int32) → (Nat → Int32) → (Nat → Int32) → (Nat → Int32) → (Nat → Int32) → (Nat → Int32) → (Nat → Int32) → (Nat → Int32) → (Nat → Int32) → (Nat → Int32) → Prop} {t j : Nat} {w c : Int32} (ht : t < 15) (hj : j < 4)
    (HJ : ∀ c' : Int32, (hi j ≤ mo (4 * t + j) → c' = c) → (¬ hi j ≤ mo (4 * t + j) → c' = 1) → J c' (nI (j + 1)) lw hg op fi se th ce va re le (gu_gl (4 * t) (j + 1) mo (gu_nH w mo hi hg t)) wi ft ns lo hi) :
    wX_arrive_155 post J (nI t) w c (nI j) (nI (4 * t + j)) (nI n) fe fp fc fk fm lw hg op fi se th ce va re le (gu_gl (4 * t) j mo (gu_nH w mo hi hg t)) wi ft ns lo hi := by
  have c1 : (nI j).toNatClampNeg = j := nI_clamp (by omega)
  have v1 : vp_in (nI j) 4 := vp_in_nI (by omega) (by omega)
  have c2 : (nI (4 * t + j)).toNatClampNeg = 4 * t + j := nI_clamp (by omega)
  have v2 : vp_in (nI (4 * t + j)) 60 := vp_in_nI (by omega) (by omega)
  have g1 : gu_gl (4 * t) j mo (gu_nH w mo hi hg t) (4 * t + j) = mo (4 * t + j) := gu_glo (by omega)
  unfold wX_arrive_155
  refine ⟨v1, v2, ?_⟩
  rw [c1, c2, g1]
  refine br_c (fun g => nm_r (nI_1 j) ?_) (fun g => br_c (fun w0 => ⟨v1, v2, nm_r (e' := gu_gl (4 * t) (j + 1) mo (gu_nH w mo hi hg t)) ?_ (nm_r (nI_1 j) (HJ 1 (fun z => absurd z g) (fun _ => rfl)))⟩) (fun w0 => ⟨v1, v2, nm_r (e' := gu_gl (4 * t) (j + 1) mo (gu_nH w mo hi hg t)) ?_ (nm_r (nI_1 j) (HJ 1 (fun z => absurd z g) (fun _ => rfl)))⟩))
  · have e : gu_nH w mo hi hg t j = mo (4 * t + j) := if_pos g
    rw [gu_glk e]
    exact HJ c (fun _ => rfl) (fun z => absurd g z)
  · have e : gu_nH w mo hi hg t j = hi j := (if_neg g).trans (if_pos w0)
    rw [← gu_gls, e]
  · have e : gu_nH w mo hi hg t j = hg j := (if_neg g).trans (if_neg w0)
    rw [← gu_gls, e]
theorem gu_ar1 {post : SX → Prop} {t : Nat} (ht : t < 15) (h0 : ¬ re t = 0) (w : Int32)
    (H0 : gu_CV lo hi le mo t → post (nI n, fe, fp, fc, fk, fm, lw, hg, op, fi, se, th, ce, va, upd re t 1, gu_gl (4 * t) 4 le (gu_nL w le lo lw t), gu_gl (4 * t) 4 mo (gu_nH w mo hi hg t), wi, ft, ns, lo, hi))
    (H1 : ¬ gu_CV lo hi le mo t → post (nI n, fe, fp, fc, fk, 1, lw, hg, op, fi, se, th, ce, va, upd re t 1, gu_gl (4 * t) 4 le (gu_nL w le lo lw t), gu_gl (4 * t) 4 mo (gu_nH w mo hi hg t), upd wi t (wi t + 1), ft, ns, lo, hi)) :
    ∀ d j, j + d = 4 → ∀ c : Int32, (c = 0 → ∀ x, x < j → le (4 * t + x) ≤ lo x ∧ hi x ≤ mo (4 * t + x)) → (¬ c = 0 → ∃ x, x < j ∧ ¬ (le (4 * t + x) ≤ lo x ∧ hi x ≤ mo (4 * t + x))) → wX_arrive_53 post (nI t) w (nI n) fe fp fc fk fm (d + 1) c (nI j) lw hg op fi se th ce va re (gu_gl (4 * t) j le (gu_nL w le lo lw t)) (gu_gl (4 * t) j mo (gu_nH w mo hi hg t)) wi ft ns lo hi := by
  have ct : (nI t).toNatClampNeg = t := nI_clamp (by omega)
  have vt : vp_in (nI t) 15 := vp_in_nI (by omega) (by omega)
  intro d
  induction d with
  | zero =>
    intro j hj c hc0 hc1
    have hj : j = 4 := by omega
    subst hj
    refine br_t (gu_y4 rfl) ⟨vt, nm_r (e' := upd re t 1) (by rw [ct, gu_vb1]) (br_c (fun z => H0 (hc0 z)) (fun z => ⟨vt, vt, nm_r (e' := upd wi t (wi t + 1)) (by rw [ct]) (H1 fun q => ?_)⟩))⟩
    obtain ⟨x, hx, hn⟩ := hc1 z
    exact hn (q x hx)
  | succ d ih =>
    intro j hj c hc0 hc1
    have c1 : (nI j).toNatClampNeg = j := nI_clamp (by omega)
    have v1 : vp_in (nI j) 4 := vp_in_nI (by omega) (by omega)
    have c2 : (nI (4 * t + j)).toNatClampNeg = 4 * t + j := nI_clamp (by omega)
    have v2 : vp_in (nI (4 * t + j)) 60 := vp_in_nI (by omega) (by omega)
    have g1 : gu_gl (4 * t) j le (gu_nL w le lo lw t) (4 * t + j) = le (4 * t + j) := gu_glo (by omega)
    have ex : ∀ c' : Int32, (¬ c' = 0 → (¬ c = 0) ∨ ¬ (le (4 * t + j) ≤ lo j ∧ hi j ≤ mo (4 * t + j))) → ¬ c' = 0 → ∃ x, x < j + 1 ∧ ¬ (le (4 * t + x) ≤ lo x ∧ hi x ≤ mo (4 * t + x)) := by
      intro c' hc' hz
      rcases hc' hz with h | h
      · obtain ⟨x, hx, hn⟩ := hc1 h
        exact ⟨x, by omega, hn⟩
      · exact ⟨j, by omega, h⟩
    refine br_f (gu_n4 (by omega)) (nm_r (gu_ix t j) ⟨vt, br_f (by rw [ct]; exact h0) ⟨v1, v2, ?_⟩⟩)
    rw [c1, c2, g1]
    refine br_c (fun g => ?_) (fun g => ?_)
    · have e : gu_nL w le lo lw t j = le (4 * t + j) := if_pos g
      rw [gu_glk e]
      refine gu_155 ht (by omega) (fun c' k1 k2 => ih (j + 1) (by omega) c' (fun z x hx => ?_) (ex c' fun z => ?_))
      · by_cases hm : hi j ≤ mo (4 * t + j)
        · by_cases ej : x = j
          · rw [ej]; exact ⟨g, hm⟩
          · exact hc0 ((k1 hm).symm.trans z) x (by omega)
        · rw [k2 hm] at z
          exact absurd z (by decide)
      · by_cases hm : hi j ≤ mo (4 * t + j)
        · rw [k1 hm] at z
          exact Or.inl z
        · exact Or.inr fun q => hm q.2
    · have fin : ∀ c' : Int32, (hi j ≤ mo (4 * t + j) → c' = 1) → (¬ hi j ≤ mo (4 * t + j) → c' = 1) → wX_arrive_53 post (nI t) w (nI n) fe fp fc fk fm (d + 1) c' (nI (j + 1)) lw hg op fi se th ce va re (gu_gl (4 * t) (j + 1) le (gu_nL w le lo lw t)) (gu_gl (4 * t) (j + 1) mo (gu_nH w mo hi hg t)) wi ft ns lo hi := by
        intro c' k1 k2
        have e1 : c' = 1 := by
          by_cases hm : hi j ≤ mo (4 * t + j)
          · exact k1 hm
          · exact k2 hm
        subst e1
        exact ih (j + 1) (by omega) 1 (fun z => absurd z (by decide)) (ex 1 fun _ => Or.inr fun q => g q.1)
      refine br_c (fun w0 => ⟨v1, ?_⟩) (fun w0 => ⟨v1, ?_⟩)
      · have e : gu_nL w le lo lw t j = lo j := (if_neg g).trans (if_pos w0)
        unfold wX_arrive_151
        exact ⟨v2, nm_r (e' := gu_gl (4 * t) (j + 1) le (gu_nL w le lo lw t)) (by rw [c2, ← gu_gls, e]) (gu_155 ht (by omega) fin)⟩
      · have e : gu_nL w le lo lw t j = lw j := (if_neg g).trans (if_neg w0)
        unfold wX_arrive_151
        exact ⟨v2, nm_r (e' := gu_gl (4 * t) (j + 1) le (gu_nL w le lo lw t)) (by rw [c2, ← gu_gls, e]) (gu_155 ht (by omega) fin)⟩
theorem gu_ar33 {post : SX → Prop} {t : Nat} (ht : t < 15) (w : Int32)
    (h2 : re t = 0 → post (nI n, fe, fp, fc, fk, 1, lw, hg, op, fi, se, th, ce, va, upd re t 1, gu_gl (4 * t) 4 le lo, gu_gl (4 * t) 4 mo hi, upd wi t (wi t + 1), ft, ns, lo, hi))
    (h3 : ¬ re t = 0 → gu_CV lo hi le mo t → post (nI n, fe, fp, fc, fk, fm, lw, hg, op, fi, se, th, ce, va, upd re t 1, gu_gl (4 * t) 4 le (gu_nL w le lo lw t), gu_gl (4 * t) 4 mo (gu_nH w mo hi hg t), wi, ft, ns, lo, hi))
    (h4 : ¬ re t = 0 → ¬ gu_CV lo hi le mo t → post (nI n, fe, fp, fc, fk, 1, lw, hg, op, fi, se, th, ce, va, upd re t 1, gu_gl (4 * t) 4 le (gu_nL w le lo lw t), gu_gl (4 * t) 4 mo (gu_nH w mo hi hg t), upd wi t (wi t + 1), ft, ns, lo, hi)) :
    wX_arrive_33 post (nI t) w (nI n) fe fp fc fk fm lw hg op fi se th ce va re le mo wi ft ns lo hi := by
  have ct : (nI t).toNatClampNeg = t := nI_clamp (by omega)
  have vt : vp_in (nI t) 15 := vp_in_nI (by omega) (by omega)
  unfold wX_arrive_33
  refine ⟨vt, ?_⟩
  rw [ct]
  refine br_c (fun z => ⟨5, ?_⟩) (fun z => ⟨5, ?_⟩)
  · have k := gu_ar0 (n := n) (fe := fe) (fp := fp) (fc := fc) (fk := fk) (fm := fm) (op := op) (fi := fi) (se := se) (th := th) (ce := ce) (va := va) (ft := ft) (ns := ns) (lw := lw) (hg := hg) ht z w (h2 z) 4 0 rfl
    rw [gu_gl0, gu_gl0] at k
    exact k
  · have k := gu_ar1 (n := n) (fe := fe) (fp := fp) (fc := fc) (fk := fk) (fm := fm) (op := op) (fi := fi) (se := se) (th := th) (ce := ce) (va := va) (ft := ft) (ns := ns) (lw := lw) (hg := hg) ht z w (h3 z) (h4 z) 4 0 rfl 0 (fun _ x hx => absurd hx (Nat.not_lt_zero x)) (fun q => absurd rfl q)
    rw [gu_gl0, gu_gl0] at k
    exact k
theorem gu_arrive {post : SX → Prop} {t : Nat} (ht : t < 15) (hn : n ≤ 14)
    (h1 : (n ≤ t ∨ ¬ gu_PO lo hi) → post (nI n, fe, fp, fc, fk, fm, lw, hg, op, fi, se, th, ce, va, re, le, mo, wi, ft, ns, lo, hi))
    (h2 : t < n → gu_PO lo hi → re t = 0 → post (nI n, fe, fp, fc, fk, 1, lw, hg, op, fi, se, th, ce, va, upd re t 1, gu_gl (4 * t) 4 le lo, gu_gl (4 * t) 4 mo hi, upd wi t (wi t + 1), ft, ns, lo, hi))
    (h3 : t < n → gu_PO lo hi → ¬ re t = 0 → gu_CV lo hi le mo t → post (nI n, fe, fp, fc, fk, fm, lw, hg, op, fi, se, th, ce, va, upd re t 1, gu_gl (4 * t) 4 le (gu_nL (gu_w (wi t)) le lo lw t), gu_gl (4 * t) 4 mo (gu_nH (gu_w (wi t)) mo hi hg t), wi, ft, ns, lo, hi))
    (h4 : t < n → gu_PO lo hi → ¬ re t = 0 → ¬ gu_CV lo hi le mo t → post (nI n, fe, fp, fc, fk, 1, lw, hg, op, fi, se, th, ce, va, upd re t 1, gu_gl (4 * t) 4 le (gu_nL (gu_w (wi t)) le lo lw t), gu_gl (4 * t) 4 mo (gu_nH (gu_w (wi t)) mo hi hg t), upd wi t (wi t + 1), ft, ns, lo, hi)) :
    wpX_arrive post (nI n, fe, fp, fc, fk, fm, lw, hg, op, fi, se, th, ce, va, re, le, mo, wi, ft, ns, lo, hi) (nI t) := by
  have ct : (nI t).toNatClampNeg = t := nI_clamp (by omega)
  have vt : vp_in (nI t) 15 := vp_in_nI (by omega) (by omega)
  unfold wpX_arrive
  refine gu_poss (fun p => ?_) (fun p => ?_)
  · by_cases hl : n ≤ t
    · exact br_t (nI_le hl (by omega)) (h1 (Or.inl hl))
    · refine br_f (nI_ge (by omega) (by omega)) (br_f (by decide) ⟨vt, ?_⟩)
      rw [ct]
      refine br_c (fun z => ?_) (fun z => ?_)
      · have e : gu_w (wi t) = 0 := if_pos z
        rw [e] at h3 h4
        exact gu_ar33 ht 0 (h2 (by omega) p) (h3 (by omega) p) (h4 (by omega) p)
      · have e : gu_w (wi t) = 1 := if_neg z
        rw [e] at h3 h4
        exact gu_ar33 ht 1 (h2 (by omega) p) (h3 (by omega) p) (h4 (by omega) p)
  · by_cases hl : n ≤ t
    · exact br_t (nI_le hl (by omega)) (h1 (Or.inl hl))
    · exact br_f (nI_ge (by omega) (by omega)) (br_t rfl (h1 (Or.inr p)))
end RgWalk
end
section
section RgLaw
/-- the numbers a are between the bounds -/
def gu_BT (lo hi a : Nat → Int32) : Prop := ∀ x, x < 4 → (lo x).toInt ≤ (a x).toInt ∧ (a x).toInt ≤ (hi x).toInt
/-- the numbers a are foreseen before instruction t -/
def gu_IN (n : Nat) (re le mo : Nat → Int32) (t : Nat) (a : Nat → Int32) : Prop := n ≤ t ∨ (re t = 1 ∧ ∀ x, x < 4 → (le (4 * t + x)).toInt ≤ (a x).toInt ∧ (a x).toInt ≤ (mo (4 * t + x)).toInt)
def gu_LH (lw hg lo hi : Nat → Int32) : Prop := ∀ x, x < 4 → (lw x).toInt ≤ (lo x).toInt ∧ (hi x).toInt ≤ (hg x).toInt
def gu_ne (a b : Int32) : Nat := if a = b then 0 else 1
def gu_cx (lw hg le mo : Nat → Int32) (t x : Nat) : Nat := gu_ne (le (4 * t + x)) (lw x) + gu_ne (mo (4 * t + x)) (hg x)
def gu_ct (lw hg le mo : Nat → Int32) (t : Nat) : Nat := gu_su (gu_cx lw hg le mo t) 4
/-- how often the row before t may still change -/
def gu_ph (lw hg le mo wi : Nat → Int32) (t : Nat) : Nat := if wi t ≤ 4 then 13 - (wi t).toNatClampNeg else gu_ct lw hg le mo t
def gu_mu (lw hg le mo wi : Nat → Int32) : Nat := gu_su (gu_ph lw hg le mo wi) 14
def gu_TI (lw hg re le mo wi : Nat → Int32) (t : Nat) : Prop :=
  (re t = 0 ∧ wi t = 0) ∨ (re t = 1 ∧ (∀ x, x < 4 → (lw x).toInt ≤ (le (4 * t + x)).toInt ∧ (le (4 * t + x)).toInt ≤ (mo (4 * t + x)).toInt ∧ (mo (4 * t + x)).toInt ≤ (hg x).toInt) ∧ ∃ w : Nat, wi t = nI w ∧ 1 ≤ w ∧ w ≤ 13 ∧ (5 ≤ w → w + gu_ct lw hg le mo t ≤ 13))
def gu_AI (lw hg re le mo wi : Nat → Int32) : Prop := ∀ t, t < 14 → gu_TI lw hg re le mo wi t
def gu_SM (fm : Int32) (re le mo wi : Nat → Int32) (fm' : Int32) (re' le' mo' wi' : Nat → Int32) : Prop := fm' = fm ∧ re' = re ∧ le' = le ∧ mo' = mo ∧ wi' = wi
/-- what arrive does: the table stays a table, covers more, covers the bounds at hand, and if it is not the same it has come nearer to its end -/
def gu_AR (n : Nat) (lw hg lo hi : Nat → Int32) (t : Nat) (fm : Int32) (re le mo wi : Nat → Int32) (fm' : Int32) (re' le' mo' wi' : Nat → Int32) : Prop :=
  gu_AI lw hg re' le' mo' wi' ∧ (∀ j a, gu_IN n re le mo j a → gu_IN n re' le' mo' j a) ∧ (∀ a, gu_BT lo hi a → gu_IN n re' le' mo' t a) ∧
  (gu_SM fm re le mo wi fm' re' le' mo' wi' ∨ (fm' = 1 ∧ gu_mu lw hg le' mo' wi' < gu_mu lw hg le mo wi))
variable {n : Nat} {fe fp fc fk fm : Int32} {lw hg op fi se th ce va re le mo wi ft ns lo hi : Nat → Int32}
theorem gu_btpo {a : Nat → Int32} (h : gu_BT lo hi a) : gu_PO lo hi := fun x hx => by
  have := h x hx
  exact Int32.le_iff_toInt_le.mpr (by omega)
theorem gu_nlB {w l o b : Int32} (h1 : b.toInt ≤ o.toInt) (h2 : b.toInt ≤ l.toInt) : b.toInt ≤ (gu_nl w l o b).toInt ∧ (gu_nl w l o b).toInt ≤ l.toInt ∧ (gu_nl w l o b).toInt ≤ o.toInt := by
  unfold gu_nl
  by_cases h : l ≤ o
  · rw [if_pos h]
    rw [Int32.le_iff_toInt_le] at h
    exact ⟨h2, Int.le_refl _, h⟩
  · rw [if_neg h]
    rw [Int32.le_iff_toInt_le] at h
    by_cases hw : w = 0
    · rw [if_pos hw]
      exact ⟨h1, by omega, Int.le_refl _⟩
    · rw [if_neg hw]
      exact ⟨Int.le_refl _, h2, h1⟩
theorem gu_nhB {w l o b : Int32} (h1 : o.toInt ≤ b.toInt) (h2 : l.toInt ≤ b.toInt) : (gu_nh w l o b).toInt ≤ b.toInt ∧ l.toInt ≤ (gu_nh w l o b).toInt ∧ o.toInt ≤ (gu_nh w l o b).toInt := by
  unfold gu_nh
  by_cases h : o ≤ l
  · rw [if_pos h]
    rw [Int32.le_iff_toInt_le] at h
    exact ⟨h2, Int.le_refl _, h⟩
  · rw [if_neg h]
    rw [Int32.le_iff_toInt_le] at h
    by_cases hw : w = 0
    · rw [if_pos hw]
      exact ⟨h1, by omega, Int.le_refl _⟩
    · rw [if_neg hw]
      exact ⟨Int.le_refl _, h2, h1⟩
theorem gu_nlW {l o b : Int32} (h1 : b.toInt ≤ o.toInt) : gu_ne (gu_nl 1 l o b) b ≤ gu_ne l b ∧ (¬ l ≤ o → gu_ne (gu_nl 1 l o b) b < gu_ne l b) := by
  by_cases h : l ≤ o
  · rw [show gu_nl 1 l o b = l from if_pos h]
    exact ⟨Nat.le_refl _, fun z => absurd h z⟩
  · have hb : ¬ l = b := fun e => h (by rw [Int32.le_iff_toInt_le, e]; exact h1)
    rw [show gu_nl 1 l o b = b from (if_neg h).trans (if_neg (by decide)), show gu_ne b b = 0 from if_pos rfl, show gu_ne l b = 1 from if_neg hb]
    exact ⟨by omega, fun _ => by omega⟩
theorem gu_nhW {l o b : Int32} (h1 : o.toInt ≤ b.toInt) : gu_ne (gu_nh 1 l o b) b ≤ gu_ne l b ∧ (¬ o ≤ l → gu_ne (gu_nh 1 l o b) b < gu_ne l b) := by
  by_cases h : o ≤ l
  · rw [show gu_nh 1 l o b = l from if_pos h]
    exact ⟨Nat.le_refl _, fun z => absurd h z⟩
  · have hb : ¬ l = b := fun e => h (by rw [Int32.le_iff_toInt_le, e]; exact h1)
    rw [show gu_nh 1 l o b = b from (if_neg h).trans (if_neg (by decide)), show gu_ne b b = 0 from if_pos rfl, show gu_ne l b = 1 from if_neg hb]
    exact ⟨by omega, fun _ => by omega⟩
theorem gu_ne1 (a b : Int32) : gu_ne a b ≤ 1 := by
  unfold gu_ne
  by_cases h : a = b
  · rw [if_pos h]; omega
  · rw [if_neg h]; omega
theorem gu_ct8 (t : Nat) : gu_ct lw hg le mo t ≤ 8 := by
  have h : gu_su (gu_cx lw hg le mo t) 4 ≤ 2 * 4 := gu_sub' 4 (fun x _ => by
    have h1 := gu_ne1 (le (4 * t + x)) (lw x)
    have h2 := gu_ne1 (mo (4 * t + x)) (hg x)
    show gu_ne (le (4 * t + x)) (lw x) + gu_ne (mo (4 * t + x)) (hg x) ≤ 2
    omega)
  exact h
theorem gu_ctE {le' mo' : Nat → Int32} {t : Nat} (h : ∀ x, x < 4 → le' (4 * t + x) = le (4 * t + x) ∧ mo' (4 * t + x) = mo (4 * t + x)) : gu_ct lw hg le' mo' t = gu_ct lw hg le mo t := by
  have e : ∀ x, x < 4 → gu_cx lw hg le' mo' t x = gu_cx lw hg le mo t x := fun x hx => by
    unfold gu_cx
    rw [(h x hx).1, (h x hx).2]
  exact Nat.le_antisymm (gu_sule 4 fun x hx => Nat.le_of_eq (e x hx)) (gu_sule 4 fun x hx => Nat.le_of_eq (e x hx).symm)
theorem gu_phE {le' mo' wi' : Nat → Int32} {t : Nat} (h : ∀ x, x < 4 → le' (4 * t + x) = le (4 * t + x) ∧ mo' (4 * t + x) = mo (4 * t + x)) (hw : wi' t = wi t) : gu_ph lw hg le' mo' wi' t = gu_ph lw hg le mo wi t := by
  unfold gu_ph
  rw [hw, gu_ctE h]
theorem gu_tiE {re' le' mo' wi' : Nat → Int32} {t : Nat} (h : ∀ x, x < 4 → le' (4 * t + x) = le (4 * t + x) ∧ mo' (4 * t + x) = mo (4 * t + x)) (hw : wi' t = wi t) (hr : re' t = re t) (H : gu_TI lw hg re le mo wi t) : gu_TI lw hg re' le' mo' wi' t := by
  unfold gu_TI at H ⊢
  rw [hw, hr, gu_ctE h]
  rcases H with H | ⟨H1, H2, H3⟩
  · exact Or.inl H
  · refine Or.inr ⟨H1, fun x hx => ?_, H3⟩
    rw [(h x hx).1, (h x hx).2]
    exact H2 x hx
/-- one row changes, in a way that comes nearer to its end: the whole does -/
theorem gu_up {re' le' mo' wi' : Nat → Int32} {t : Nat} (ht : t < 14) (A : gu_AI lw hg re le mo wi)
    (hl : ∀ m, (m < 4 * t ∨ 4 * t + 4 ≤ m) → le' m = le m ∧ mo' m = mo m) (hr : ∀ j, j ≠ t → re' j = re j ∧ wi' j = wi j)
    (H : gu_TI lw hg re' le' mo' wi' t) (hp : gu_ph lw hg le' mo' wi' t < gu_ph lw hg le mo wi t) :
    gu_AI lw hg re' le' mo' wi' ∧ gu_mu lw hg le' mo' wi' < gu_mu lw hg le mo wi := by
  have row : ∀ j, j ≠ t → ∀ x, x < 4 → le' (4 * j + x) = le (4 * j + x) ∧ mo' (4 * j + x) = mo (4 * j + x) := fun j hj x hx => hl _ (by omega)
  refine ⟨fun j hj => ?_, gu_sult 14 (fun j hj => ?_) ⟨t, ht, hp⟩⟩
  · by_cases e : j = t
    · rw [e]; exact H
    · exact gu_tiE (row j e) (hr j e).2 (hr j e).1 (A j hj)
  · by_cases e : j = t
    · rw [e]; exact Nat.le_of_lt hp
    · exact Nat.le_of_eq (gu_phE (row j e) (hr j e).2)
theorem gu_inE {re' le' mo' : Nat → Int32} {t j : Nat} {a : Nat → Int32} (hj : j ≠ t)
    (hl : ∀ m, (m < 4 * t ∨ 4 * t + 4 ≤ m) → le' m = le m ∧ mo' m = mo m) (hr : ∀ j, j ≠ t → re' j = re j) (H : gu_IN n re le mo j a) : gu_IN n re' le' mo' j a := by
  rcases H with H | ⟨H1, H2⟩
  · exact Or.inl H
  · refine Or.inr ⟨(hr j hj).trans H1, fun x hx => ?_⟩
    rw [(hl (4 * j + x) (by omega)).1, (hl (4 * j + x) (by omega)).2]
    exact H2 x hx
theorem gu_glm {t m : Nat} {f g : Nat → Int32} (h : m < 4 * t ∨ 4 * t + 4 ≤ m) : gu_gl (4 * t) 4 f g m = f m := gu_glo h
theorem gu_law2 {t : Nat} (ht : t < n) (hn : n ≤ 14) (A : gu_AI lw hg re le mo wi) (L : gu_LH lw hg lo hi) (P : gu_PO lo hi) (r0 : re t = 0) :
    gu_AR n lw hg lo hi t fm re le mo wi 1 (upd re t 1) (gu_gl (4 * t) 4 le lo) (gu_gl (4 * t) 4 mo hi) (upd wi t (wi t + 1)) := by
  have w0 : wi t = 0 := by
    rcases A t (by omega) with h | h
    · exact h.2
    · rw [r0] at h
      exact absurd h.1 (by decide)
  have w1 : wi t + 1 = nI 1 := by rw [w0]; decide
  have T : gu_TI lw hg (upd re t 1) (gu_gl (4 * t) 4 le lo) (gu_gl (4 * t) 4 mo hi) (upd wi t (wi t + 1)) t := by
    refine Or.inr ⟨gu_us, fun x hx => ?_, 1, by rw [gu_us]; exact w1, by omega, by omega, fun z => by omega⟩
    rw [gu_gli hx, gu_gli hx]
    have h1 := L x hx
    have h2 := Int32.le_iff_toInt_le.mp (P x hx)
    omega
  have F : gu_ph lw hg (gu_gl (4 * t) 4 le lo) (gu_gl (4 * t) 4 mo hi) (upd wi t (wi t + 1)) t < gu_ph lw hg le mo wi t := by
    unfold gu_ph
    rw [gu_us, w1, w0, if_pos (by decide), if_pos (by decide), nI_clamp (by decide)]
    decide
  have U := gu_up (t := t) (by omega) A (fun m hm => ⟨gu_glm hm, gu_glm hm⟩) (fun j hj => ⟨gu_un hj, gu_un hj⟩) T F
  refine ⟨U.1, fun j a H => ?_, fun a B => ?_, Or.inr ⟨rfl, U.2⟩⟩
  · by_cases e : j = t
    · subst e
      rcases H with H | H
      · exact Or.inl H
      · rw [r0] at H
        exact absurd H.1 (by decide)
    · exact gu_inE e (fun m hm => ⟨gu_glm hm, gu_glm hm⟩) (fun j hj => gu_un hj) H
  · refine Or.inr ⟨gu_us, fun x hx => ?_⟩
    rw [gu_gli hx, gu_gli hx]
    exact B x hx
theorem gu_law4 {t : Nat} (ht : t < n) (hn : n ≤ 14) (A : gu_AI lw hg re le mo wi) (L : gu_LH lw hg lo hi) (r0 : ¬ re t = 0) (C : ¬ gu_CV lo hi le mo t) :
    gu_AR n lw hg lo hi t fm re le mo wi 1 (upd re t 1) (gu_gl (4 * t) 4 le (gu_nL (gu_w (wi t)) le lo lw t)) (gu_gl (4 * t) 4 mo (gu_nH (gu_w (wi t)) mo hi hg t)) (upd wi t (wi t + 1)) := by
  rcases A t (by omega) with h | ⟨r1, rows, w, ew, w1, w13, wc⟩
  · exact absurd h.1 r0
  have e1 : wi t + 1 = nI (w + 1) := by rw [ew]; exact nI_1 w
  have nr : ∀ x, x < 4 → (lw x).toInt ≤ (gu_nL (gu_w (wi t)) le lo lw t x).toInt ∧ (gu_nL (gu_w (wi t)) le lo lw t x).toInt ≤ (le (4 * t + x)).toInt ∧ (gu_nL (gu_w (wi t)) le lo lw t x).toInt ≤ (lo x).toInt := fun x hx => gu_nlB (L x hx).1 (rows x hx).1
  have nh : ∀ x, x < 4 → (gu_nH (gu_w (wi t)) mo hi hg t x).toInt ≤ (hg x).toInt ∧ (mo (4 * t + x)).toInt ≤ (gu_nH (gu_w (wi t)) mo hi hg t x).toInt ∧ (hi x).toInt ≤ (gu_nH (gu_w (wi t)) mo hi hg t x).toInt := fun x hx => gu_nhB (L x hx).2 (rows x hx).2.2
  have D : 5 ≤ w → gu_ct lw hg (gu_gl (4 * t) 4 le (gu_nL (gu_w (wi t)) le lo lw t)) (gu_gl (4 * t) 4 mo (gu_nH (gu_w (wi t)) mo hi hg t)) t < gu_ct lw hg le mo t := by
    intro h5
    have ww : gu_w (wi t) = 1 := if_neg (by rw [ew]; exact nI_ge (a := 4) (by omega) (by omega))
    rw [ww]
    have cx : ∀ x, x < 4 → gu_cx lw hg (gu_gl (4 * t) 4 le (gu_nL 1 le lo lw t)) (gu_gl (4 * t) 4 mo (gu_nH 1 mo hi hg t)) t x = gu_ne (gu_nl 1 (le (4 * t + x)) (lo x) (lw x)) (lw x) + gu_ne (gu_nh 1 (mo (4 * t + x)) (hi x) (hg x)) (hg x) := fun x hx => by
      unfold gu_cx
      rw [gu_gli hx, gu_gli hx]
      rfl
    refine gu_sult 4 (fun x hx => ?_) ?_
    · rw [cx x hx]
      have h1 := (gu_nlW (l := le (4 * t + x)) (L x hx).1).1
      have h2 := (gu_nhW (l := mo (4 * t + x)) (L x hx).2).1
      show _ ≤ gu_ne (le (4 * t + x)) (lw x) + gu_ne (mo (4 * t + x)) (hg x)
      omega
    · apply Classical.byContradiction
      intro hno
      refine C fun x hx => ?_
      apply Classical.byContradiction
      intro hc
      refine hno ⟨x, hx, ?_⟩
      rw [cx x hx]
      have h1 := gu_nlW (l := le (4 * t + x)) (L x hx).1
      have h2 := gu_nhW (l := mo (4 * t + x)) (L x hx).2
      show _ < gu_ne (le (4 * t + x)) (lw x) + gu_ne (mo (4 * t + x)) (hg x)
      by_cases q : le (4 * t + x) ≤ lo x
      · have q2 : ¬ hi x ≤ mo (4 * t + x) := fun z => hc ⟨q, z⟩
        have h3 := h2.2 q2
        have h4 := h1.1
        omega
      · have h3 := h1.2 q
        have h4 := h2.1
        omega
  have c8 := gu_ct8 (lw := lw) (hg := hg) (le := gu_gl (4 * t) 4 le (gu_nL (gu_w (wi t)) le lo lw t)) (mo := gu_gl (4 * t) 4 mo (gu_nH (gu_w (wi t)) mo hi hg t)) t
  have T : gu_TI lw hg (upd re t 1) (gu_gl (4 * t) 4 le (gu_nL (gu_w (wi t)) le lo lw t)) (gu_gl (4 * t) 4 mo (gu_nH (gu_w (wi t)) mo hi hg t)) (upd wi t (wi t + 1)) t := by
    refine Or.inr ⟨gu_us, fun x hx => ?_, w + 1, by rw [gu_us]; exact e1, by omega, ?_, fun z => ?_⟩
    · rw [gu_gli hx, gu_gli hx]
      have h1 := nr x hx
      have h2 := nh x hx
      have h3 := rows x hx
      omega
    · by_cases h5 : 5 ≤ w
      · have h1 := D h5
        have h2 := wc h5
        omega
      · omega
    · by_cases h5 : 5 ≤ w
      · have h1 := D h5
        have h2 := wc h5
        omega
      · omega
  have F : gu_ph lw hg (gu_gl (4 * t) 4 le (gu_nL (gu_w (wi t)) le lo lw t)) (gu_gl (4 * t) 4 mo (gu_nH (gu_w (wi t)) mo hi hg t)) (upd wi t (wi t + 1)) t < gu_ph lw hg le mo wi t := by
    unfold gu_ph
    rw [gu_us, e1]
    have cw : (wi t).toNatClampNeg = w := by rw [ew]; exact nI_clamp (by omega)
    have cv : (nI (w + 1)).toNatClampNeg = w + 1 := nI_clamp (by omega)
    rw [cw, cv]
    by_cases h4 : 4 < w
    · have p1 : ¬ nI (w + 1) ≤ 4 := nI_ge (a := 4) (by omega) (by omega)
      have p2 : ¬ wi t ≤ 4 := by rw [ew]; exact nI_ge (a := 4) (by omega) (by omega)
      rw [if_neg p1, if_neg p2]
      exact D (by omega)
    · have p2 : wi t ≤ 4 := by rw [ew]; exact nI_le (b := 4) (by omega) (by omega)
      rw [if_pos p2]
      by_cases h3 : w = 4
      · have p1 : ¬ nI (w + 1) ≤ 4 := nI_ge (a := 4) (by omega) (by omega)
        rw [if_neg p1]
        omega
      · have p1 : nI (w + 1) ≤ 4 := nI_le (b := 4) (by omega) (by omega)
        rw [if_pos p1]
        omega
  have U := gu_up (t := t) (by omega) A (fun m hm => ⟨gu_glm hm, gu_glm hm⟩) (fun j hj => ⟨gu_un hj, gu_un hj⟩) T F
  refine ⟨U.1, fun j a H => ?_, fun a B => ?_, Or.inr ⟨rfl, U.2⟩⟩
  · by_cases e : j = t
    · subst e
      rcases H with H | ⟨_, H⟩
      · exact Or.inl H
      · refine Or.inr ⟨gu_us, fun x hx => ?_⟩
        rw [gu_gli hx, gu_gli hx]
        have h1 := nr x hx
        have h2 := nh x hx
        have h3 := H x hx
        omega
    · exact gu_inE e (fun m hm => ⟨gu_glm hm, gu_glm hm⟩) (fun j hj => gu_un hj) H
  · refine Or.inr ⟨gu_us, fun x hx => ?_⟩
    rw [gu_gli hx, gu_gli hx]
    have h1 := nr x hx
    have h2 := nh x hx
    have h3 := B x hx
    omega
theorem gu_law3 {t : Nat} (ht : t < n) (hn : n ≤ 14) (A : gu_AI lw hg re le mo wi) (r0 : ¬ re t = 0) (C : gu_CV lo hi le mo t) :
    gu_AR n lw hg lo hi t fm re le mo wi fm (upd re t 1) (gu_gl (4 * t) 4 le (gu_nL (gu_w (wi t)) le lo lw t)) (gu_gl (4 * t) 4 mo (gu_nH (gu_w (wi t)) mo hi hg t)) wi := by
  have r1 : re t = 1 := by
    rcases A t (by omega) with h | h
    · exact absurd h.1 r0
    · exact h.1
  have e1 : gu_gl (4 * t) 4 le (gu_nL (gu_w (wi t)) le lo lw t) = le := gu_gle fun x hx => if_pos (C x hx).1
  have e2 : gu_gl (4 * t) 4 mo (gu_nH (gu_w (wi t)) mo hi hg t) = mo := gu_gle fun x hx => if_pos (C x hx).2
  rw [e1, e2, gu_same r1]
  refine ⟨A, fun j a H => H, fun a B => Or.inr ⟨r1, fun x hx => ?_⟩, Or.inl ⟨rfl, rfl, rfl, rfl, rfl⟩⟩
  have h1 := B x hx
  have h2 := C x hx
  rw [Int32.le_iff_toInt_le, Int32.le_iff_toInt_le] at h2
  omega
/-- arrive, met by its law -/
theorem gu_arr {post : SX → Prop} {t : Nat} (ht : t < 15) (hn : n ≤ 14) (A : gu_AI lw hg re le mo wi) (L : gu_LH lw hg lo hi)
    (H : ∀ (fm' : Int32) (re' le' mo' wi' : Nat → Int32), gu_AR n lw hg lo hi t fm re le mo wi fm' re' le' mo' wi' → post (nI n, fe, fp, fc, fk, fm', lw, hg, op, fi, se, th, ce, va, re', le', mo', wi', ft, ns, lo, hi)) :
    wpX_arrive post (nI n, fe, fp, fc, fk, fm, lw, hg, op, fi, se, th, ce, va, re, le, mo, wi, ft, ns, lo, hi) (nI t) := by
  refine gu_arrive ht hn (fun h => H _ _ _ _ _ ?_) (fun h1 h2 h3 => H _ _ _ _ _ (gu_law2 h1 hn A L h2 h3)) (fun h1 _ h3 h4 => H _ _ _ _ _ (gu_law3 h1 hn A h3 h4)) (fun h1 _ h3 h4 => H _ _ _ _ _ (gu_law4 h1 hn A L h3 h4))
  refine ⟨A, fun j a H => H, fun a B => ?_, Or.inl ⟨rfl, rfl, rfl, rfl, rfl⟩⟩
  rcases h with h | h
  · exact Or.inl h
  · exact absurd (gu_btpo B) h
end RgLaw
end
section
section RgGet
variable {n : Nat} {fe fp fc fk fm : Int32} {lw hg op fi se th ce va re le mo wi ft ns lo hi : Nat → Int32}
def gu_mx (a b : Int32) : Int32 := if a ≤ b then b else a
def gu_mn (b a : Int32) : Int32 := if b ≤ a then b else a
theorem gu_mxB (a b : Int32) : a.toInt ≤ (gu_mx a b).toInt ∧ b.toInt ≤ (gu_mx a b).toInt ∧ ((gu_mx a b).toInt = a.toInt ∨ (gu_mx a b).toInt = b.toInt) := by
  unfold gu_mx
  by_cases h : a ≤ b
  · rw [if_pos h]
    rw [Int32.le_iff_toInt_le] at h
    omega
  · rw [if_neg h]
    rw [Int32.le_iff_toInt_le] at h
    omega
theorem gu_mnB (b a : Int32) : (gu_mn b a).toInt ≤ a.toInt ∧ (gu_mn b a).toInt ≤ b.toInt ∧ ((gu_mn b a).toInt = a.toInt ∨ (gu_mn b a).toInt = b.toInt) := by
  unfold gu_mn
  by_cases h : b ≤ a
  · rw [if_pos h]
    rw [Int32.le_iff_toInt_le] at h
    omega
  · rw [if_neg h]
    rw [Int32.le_iff_toInt_le] at h
    omega
theorem gu_get57 {post : SX → Prop} {x to z : Int32} (vx : vp_in x 4) (H : post (nI n, fe, fp, fc, fk, fm, lw, hg, op, fi, se, th, ce, va, re, le, mo, wi, ft, ns, upd lo x.toNatClampNeg z, upd hi x.toNatClampNeg (gu_mn (hg x.toNatClampNeg) to))) : wX_get_57 post x to z x (nI n) fe fp fc fk fm lw hg op fi se th ce va re le mo wi ft ns lo hi := by
  unfold wX_get_57
  refine ⟨vx, nm_e ⟨vx, br_c (fun h => ⟨vx, vx, nm_r (e' := upd hi x.toNatClampNeg (gu_mn (hg x.toNatClampNeg) to)) ?_ H⟩) (fun h => ⟨vx, nm_r (e' := upd hi x.toNatClampNeg (gu_mn (hg x.toNatClampNeg) to)) ?_ H⟩)⟩⟩
  · rw [show gu_mn (hg x.toNatClampNeg) to = hg x.toNatClampNeg from if_pos h]
  · rw [show gu_mn (hg x.toNatClampNeg) to = to from if_neg h]
theorem gu_get31 {post : SX → Prop} {x fr to b : Int32} {i : Nat} (hb : vp_nar .boolean b = b) (h14 : i < 14) (vx : vp_in x 4) (H : post (nI n, fe, fp, fc, fk, fm, lw, hg, op, fi, se, th, ce, va, re, le, mo, wi, upd ft i b, ns, upd lo x.toNatClampNeg (gu_mx fr (lw x.toNatClampNeg)), upd hi x.toNatClampNeg (gu_mn (hg x.toNatClampNeg) to))) : wX_get_31 post x fr to b (nI i) (nI n) fe fp fc fk fm lw hg op fi se th ce va re le mo wi ft ns lo hi := by
  have ci : (nI i).toNatClampNeg = i := nI_clamp (by omega)
  have vi : vp_in (nI i) 14 := vp_in_nI h14 (by omega)
  unfold wX_get_31
  refine ⟨vi, nm_r (e' := upd ft i b) (by rw [ci, hb]) ⟨vx, br_c (fun h => ⟨vx, gu_get57 vx ?_⟩) (fun h => gu_get57 vx ?_)⟩⟩
  · rw [← show gu_mx fr (lw x.toNatClampNeg) = lw x.toNatClampNeg from if_pos h]
    exact H
  · rw [show gu_mx fr (lw x.toNatClampNeg) = fr from if_neg h] at H
    exact H
theorem gu_get {post : SX → Prop} {x fr to : Int32} {i : Nat} (h14 : i < 14) (vx : vp_in x 4)
    (H : ∀ b : Int32, (b ≠ 0 → (lw x.toNatClampNeg).toInt ≤ fr.toInt ∧ to.toInt ≤ (hg x.toNatClampNeg).toInt) → post (nI n, fe, fp, fc, fk, fm, lw, hg, op, fi, se, th, ce, va, re, le, mo, wi, upd ft i b, ns, upd lo x.toNatClampNeg (gu_mx fr (lw x.toNatClampNeg)), upd hi x.toNatClampNeg (gu_mn (hg x.toNatClampNeg) to))) :
    wpX_get post (nI n, fe, fp, fc, fk, fm, lw, hg, op, fi, se, th, ce, va, re, le, mo, wi, ft, ns, lo, hi) (nI i) x fr to := by
  unfold wpX_get
  refine ⟨vx, gu_lt _ _ rfl rfl (fun h => ?_) (fun h => ⟨vx, gu_lt _ _ rfl rfl (fun h2 => ?_) (fun h2 => ?_)⟩)⟩
  · exact gu_get31 gu_vb0 h14 vx (H 0 fun z => absurd rfl z)
  · exact gu_get31 gu_vb0 h14 vx (H 0 fun z => absurd rfl z)
  · exact gu_get31 gu_vb1 h14 vx (H 1 fun _ => ⟨h, h2⟩)
def gu_ul (l k : Int32) : Int32 := if -k ≤ l then l else -k
def gu_uh (h k : Int32) : Int32 := if h ≤ 7 - k then h else 7 - k
theorem gu_use62 {post : SX → Prop} {y k z : Int32} (vy : vp_in y 4) (H : post (nI n, fe, fp, fc, fk, fm, lw, hg, op, fi, se, th, ce, va, re, le, mo, wi, ft, ns, upd lo y.toNatClampNeg z, upd hi y.toNatClampNeg (gu_uh (hi y.toNatClampNeg) k))) : wX_use_62 post y k z y (nI n) fe fp fc fk fm lw hg op fi se th ce va re le mo wi ft ns lo hi := by
  unfold wX_use_62
  refine ⟨vy, nm_e ⟨vy, br_c (fun h => ⟨vy, vy, nm_r (e' := upd hi y.toNatClampNeg (gu_uh (hi y.toNatClampNeg) k)) ?_ H⟩) (fun h => ⟨vy, nm_r (e' := upd hi y.toNatClampNeg (gu_uh (hi y.toNatClampNeg) k)) ?_ H⟩)⟩⟩
  · rw [show gu_uh (hi y.toNatClampNeg) k = hi y.toNatClampNeg from if_pos h]
  · rw [show gu_uh (hi y.toNatClampNeg) k = 7 - k from if_neg h]
theorem gu_use34 {post : SX → Prop} {y k b : Int32} {i : Nat} (hb : vp_nar .boolean b = b) (h14 : i < 14) (vy : vp_in y 4) (H : post (nI n, fe, fp, fc, fk, fm, lw, hg, op, fi, se, th, ce, va, re, le, mo, wi, ft, upd ns i b, upd lo y.toNatClampNeg (gu_ul (lo y.toNatClampNeg) k), upd hi y.toNatClampNeg (gu_uh (hi y.toNatClampNeg) k))) : wX_use_34 post y k b (nI i) (nI n) fe fp fc fk fm lw hg op fi se th ce va re le mo wi ft ns lo hi := by
  have ci : (nI i).toNatClampNeg = i := nI_clamp (by omega)
  have vi : vp_in (nI i) 14 := vp_in_nI h14 (by omega)
  unfold wX_use_34
  refine ⟨vi, nm_r (e' := upd ns i b) (by rw [ci, hb]) ⟨vy, br_c (fun h => ⟨vy, gu_use62 vy ?_⟩) (fun h => gu_use62 vy ?_)⟩⟩
  · rw [show gu_ul (lo y.toNatClampNeg) k = lo y.toNatClampNeg from if_pos h] at H
    exact H
  · rw [show gu_ul (lo y.toNatClampNeg) k = -k from if_neg h] at H
    exact H
theorem gu_use {post : SX → Prop} {y k : Int32} {i : Nat} (h14 : i < 14) (vy : vp_in y 4)
    (H : ∀ b : Int32, (b ≠ 0 → 0 ≤ (lo y.toNatClampNeg + k).toInt ∧ (hi y.toNatClampNeg + k).toInt ≤ 7) → post (nI n, fe, fp, fc, fk, fm, lw, hg, op, fi, se, th, ce, va, re, le, mo, wi, ft, upd ns i b, upd lo y.toNatClampNeg (gu_ul (lo y.toNatClampNeg) k), upd hi y.toNatClampNeg (gu_uh (hi y.toNatClampNeg) k))) :
    wpX_use post (nI n, fe, fp, fc, fk, fm, lw, hg, op, fi, se, th, ce, va, re, le, mo, wi, ft, ns, lo, hi) (nI i) y k := by
  unfold wpX_use
  refine ⟨vy, gu_lt _ _ rfl gu_t0 (fun h => ?_) (fun h => ⟨vy, gu_lt _ _ gu_t7 rfl (fun h2 => ?_) (fun h2 => ?_)⟩)⟩
  · exact gu_use34 gu_vb0 h14 vy (H 0 fun z => absurd rfl z)
  · exact gu_use34 gu_vb0 h14 vy (H 0 fun z => absurd rfl z)
  · exact gu_use34 gu_vb1 h14 vy (H 1 fun _ => ⟨h, h2⟩)
theorem gu_fmask {post : SX → Prop} {x y k : Int32} {i : Nat} (h14 : i < 14) (vx : vp_in x 4) (vy : vp_in y 4) (hk : 0 ≤ k.toInt)
    (H : ∀ b fr to : Int32, (b ≠ 0 → (lw x.toNatClampNeg).toInt ≤ fr.toInt ∧ to.toInt ≤ (hg x.toNatClampNeg).toInt) →
      (∀ v : Int32, (lo y.toNatClampNeg).toInt ≤ v.toInt → v.toInt ≤ (hi y.toNatClampNeg).toInt → fr.toInt ≤ (v &&& k).toInt ∧ (v &&& k).toInt ≤ to.toInt) →
      post (nI n, fe, fp, fc, fk, fm, lw, hg, op, fi, se, th, ce, va, re, le, mo, wi, upd ft i b, ns, upd lo x.toNatClampNeg (gu_mx fr (lw x.toNatClampNeg)), upd hi x.toNatClampNeg (gu_mn (hg x.toNatClampNeg) to))) :
    wpX_followMask post (nI n, fe, fp, fc, fk, fm, lw, hg, op, fi, se, th, ce, va, re, le, mo, wi, ft, ns, lo, hi) (nI i) x y k := by
  have m64 : ∀ z0 : Int32, (¬ z0 = 0 → 0 ≤ (lo y.toNatClampNeg).toInt) → wX_followMask_64 post (nI i) x y k z0 (nI n) fe fp fc fk fm lw hg op fi se th ce va re le mo wi ft ns lo hi := by
    intro z0 hz
    unfold wX_followMask_64
    refine br_c (fun z => ?_) (fun z => ⟨vy, ?_⟩)
    · unfold wX_followMask_86
      refine gu_get h14 vx (fun b hb => H b 0 k hb fun v _ _ => ?_)
      have h := gu_mask (v := v) hk
      rw [gu_t0]
      exact ⟨h.1, h.2.1⟩
    · unfold wX_followMask_86
      refine gu_get h14 vx (fun b hb => H b 0 (hi y.toNatClampNeg) hb fun v h1 h2 => ?_)
      have h := gu_mask (v := v) hk
      have h0 := hz z
      rw [gu_t0]
      exact ⟨h.1, Int.le_trans (h.2.2 (by omega)) h2⟩
  unfold wpX_followMask
  refine ⟨vy, vy, br_c (fun e => ⟨vy, nm_e (gu_get h14 vx (fun b hb => H b _ _ hb fun v h1 h2 => ?_))⟩) (fun e => ⟨vy, gu_lt _ _ rfl gu_t0 (fun h => ?_) (fun h => ⟨vy, br_c (fun h2 => ?_) (fun h2 => ?_)⟩)⟩)⟩
  · have ev : v = lo y.toNatClampNeg := by
      rw [← e] at h2
      exact Int32.toInt_inj.mp (by omega)
    rw [ev]
    exact ⟨Int.le_refl _, Int.le_refl _⟩
  · exact m64 0 (fun z => absurd rfl z)
  · exact m64 0 (fun z => absurd rfl z)
  · exact m64 1 (fun _ => h)
end RgGet
end
section
section RgFollow
def gu_OK (lw hg : Nat → Int32) (x : Nat) (v : Int32) : Prop := (lw x).toInt ≤ v.toInt ∧ v.toInt ≤ (hg x).toInt
def gu_GV (n : Nat) (lw hg re le mo : Nat → Int32) (f : Int32) (i x : Nat) (v : Int32) (a : Nat → Int32) : Prop := (f ≠ 0 → gu_OK lw hg x v) ∧ (gu_OK lw hg x v → gu_IN n re le mo (i + 1) (upd a x v))
def gu_IO (v : Int32) : Prop := 0 ≤ v.toInt ∧ v.toInt ≤ 7
def gu_RR (v : Int32) : Prop := -100 ≤ v.toInt ∧ v.toInt ≤ 100
def gu_R8 (v : Int32) : Prop := -8 ≤ v.toInt ∧ v.toInt ≤ 8
def gu_BN (lw hg : Nat → Int32) : Prop := ∀ x, -100 ≤ (lw x).toInt ∧ (lw x).toInt ≤ (hg x).toInt ∧ (hg x).toInt ≤ 100
/-- an instruction as it is held -/
def gu_XP (o f s t : Int32) : Prop := vp_in f 4 ∧ vp_in s 4 ∧ ((o = 0 ∧ gu_RR t) ∨ (o = 1 ∧ gu_RR t) ∨ (o = 2 ∧ vp_in t 4) ∨ (o = 3 ∧ 0 ≤ t.toInt ∧ t.toInt ≤ 63) ∨ (o = 4 ∧ gu_R8 t) ∨ (o = 5 ∧ gu_R8 t) ∨ (o = 6 ∧ vp_in t 15) ∨ (o = 7 ∧ vp_in t 15))
def gu_C0 (n : Nat) (lw hg fi se th re le mo ft ns : Nat → Int32) (i : Nat) (a : Nat → Int32) : Prop := gu_GV n lw hg re le mo (ft i) i (fi i).toNatClampNeg (th i) a
def gu_C1 (n : Nat) (lw hg fi se th re le mo ft ns : Nat → Int32) (i : Nat) (a : Nat → Int32) : Prop := gu_GV n lw hg re le mo (ft i) i (fi i).toNatClampNeg (a (se i).toNatClampNeg + th i) a
def gu_C2 (n : Nat) (lw hg fi se th re le mo ft ns : Nat → Int32) (i : Nat) (a : Nat → Int32) : Prop := gu_GV n lw hg re le mo (ft i) i (fi i).toNatClampNeg (a (se i).toNatClampNeg + a (th i).toNatClampNeg) a
def gu_C3 (n : Nat) (lw hg fi se th re le mo ft ns : Nat → Int32) (i : Nat) (a : Nat → Int32) : Prop := gu_GV n lw hg re le mo (ft i) i (fi i).toNatClampNeg (a (se i).toNatClampNeg &&& th i) a
def gu_C4 (n : Nat) (lw hg fi se th re le mo ft ns : Nat → Int32) (i : Nat) (a : Nat → Int32) : Prop := (ns i ≠ 0 → gu_IO (a (se i).toNatClampNeg + th i)) ∧ (gu_IO (a (se i).toNatClampNeg + th i) → ∀ v : Int32, gu_RR v → gu_GV n lw hg re le mo (ft i) i (fi i).toNatClampNeg v a)
def gu_C5 (n : Nat) (lw hg fi se th re le mo ft ns : Nat → Int32) (i : Nat) (a : Nat → Int32) : Prop := (ns i ≠ 0 → gu_IO (a (se i).toNatClampNeg + th i)) ∧ (gu_IO (a (se i).toNatClampNeg + th i) → gu_IN n re le mo (i + 1) a)
def gu_C6 (n : Nat) (lw hg fi se th re le mo ft ns : Nat → Int32) (i : Nat) (a : Nat → Int32) : Prop := (¬ a (se i).toNatClampNeg ≤ a (fi i).toNatClampNeg → gu_IN n re le mo (th i).toNatClampNeg a) ∧ (a (se i).toNatClampNeg ≤ a (fi i).toNatClampNeg → gu_IN n re le mo (i + 1) a)
def gu_C7 (n : Nat) (lw hg fi se th re le mo ft ns : Nat → Int32) (i : Nat) (a : Nat → Int32) : Prop := gu_IN n re le mo (th i).toNatClampNeg a
/-- whatever is foreseen before instruction i: the tests left out can't fail, and what follows is foreseen -/
def gu_SD (n : Nat) (lw hg op fi se th re le mo ft ns : Nat → Int32) (i : Nat) : Prop := ∀ a, gu_BT (fun x => le (4 * i + x)) (fun x => mo (4 * i + x)) a →
  (op i = 0 → gu_C0 n lw hg fi se th re le mo ft ns i a) ∧ (op i = 1 → gu_C1 n lw hg fi se th re le mo ft ns i a) ∧ (op i = 2 → gu_C2 n lw hg fi se th re le mo ft ns i a) ∧ (op i = 3 → gu_C3 n lw hg fi se th re le mo ft ns i a) ∧ (op i = 4 → gu_C4 n lw hg fi se th re le mo ft ns i a) ∧ (op i = 5 → gu_C5 n lw hg fi se th re le mo ft ns i a) ∧ (op i = 6 → gu_C6 n lw hg fi se th re le mo ft ns i a) ∧ (op i = 7 → gu_C7 n lw hg fi se th re le mo ft ns i a)
def gu_FO (n : Nat) (lw hg op fi se th : Nat → Int32) (i : Nat) (fm : Int32) (re le mo wi ft ns : Nat → Int32) (fm' : Int32) (re' le' mo' wi' ft' ns' : Nat → Int32) : Prop :=
  gu_AI lw hg re' le' mo' wi' ∧ (∀ j a, gu_IN n re le mo j a → gu_IN n re' le' mo' j a) ∧ (∀ j, j ≠ i → ft' j = ft j ∧ ns' j = ns j) ∧
  ((gu_SM fm re le mo wi fm' re' le' mo' wi' ∧ gu_SD n lw hg op fi se th re' le' mo' ft' ns' i) ∨ (fm' = 1 ∧ gu_mu lw hg le' mo' wi' < gu_mu lw hg le mo wi))
variable {n : Nat} {fe fp fc fk fm : Int32} {lw hg op fi se th ce va re le mo wi ft ns lo hi : Nat → Int32}
theorem gu_sd0 {i : Nat} (ho : op i = 0) (h : ∀ a, gu_BT (fun x => le (4 * i + x)) (fun x => mo (4 * i + x)) a → gu_C0 n lw hg fi se th re le mo ft ns i a) : gu_SD n lw hg op fi se th re le mo ft ns i :=
  fun a B => ⟨fun _ => h a B, fun e => absurd (ho.symm.trans e) (by decide), fun e => absurd (ho.symm.trans e) (by decide), fun e => absurd (ho.symm.trans e) (by decide), fun e => absurd (ho.symm.trans e) (by decide), fun e => absurd (ho.symm.trans e) (by decide), fun e => absurd (ho.symm.trans e) (by decide), fun e => absurd (ho.symm.trans e) (by decide)⟩
theorem gu_sd1 {i : Nat} (ho : op i = 1) (h : ∀ a, gu_BT (fun x => le (4 * i + x)) (fun x => mo (4 * i + x)) a → gu_C1 n lw hg fi se th re le mo ft ns i a) : gu_SD n lw hg op fi se th re le mo ft ns i :=
  fun a B => ⟨fun e => absurd (ho.symm.trans e) (by decide), fun _ => h a B, fun e => absurd (ho.symm.trans e) (by decide), fun e => absurd (ho.symm.trans e) (by decide), fun e => absurd (ho.symm.trans e) (by decide), fun e => absurd (ho.symm.trans e) (by decide), fun e => absurd (ho.symm.trans e) (by decide), fun e => absurd (ho.symm.trans e) (by decide)⟩
theorem gu_sd2 {i : Nat} (ho : op i = 2) (h : ∀ a, gu_BT (fun x => le (4 * i + x)) (fun x => mo (4 * i + x)) a → gu_C2 n lw hg fi se th re le mo ft ns i a) : gu_SD n lw hg op fi se th re le mo ft ns i :=
  fun a B => ⟨fun e => absurd (ho.symm.trans e) (by decide), fun e => absurd (ho.symm.trans e) (by decide), fun _ => h a B, fun e => absurd (ho.symm.trans e) (by decide), fun e => absurd (ho.symm.trans e) (by decide), fun e => absurd (ho.symm.trans e) (by decide), fun e => absurd (ho.symm.trans e) (by decide), fun e => absurd (ho.symm.trans e) (by decide)⟩
theorem gu_sd3 {i : Nat} (ho : op i = 3) (h : ∀ a, gu_BT (fun x => le (4 * i + x)) (fun x => mo (4 * i + x)) a → gu_C3 n lw hg fi se th re le mo ft ns i a) : gu_SD n lw hg op fi se th re le mo ft ns i :=
  fun a B => ⟨fun e => absurd (ho.symm.trans e) (by decide), fun e => absurd (ho.symm.trans e) (by decide), fun e => absurd (ho.symm.trans e) (by decide), fun _ => h a B, fun e => absurd (ho.symm.trans e) (by decide), fun e => absurd (ho.symm.trans e) (by decide), fun e => absurd (ho.symm.trans e) (by decide), fun e => absurd (ho.symm.trans e) (by decide)⟩
theorem gu_sd4 {i : Nat} (ho : op i = 4) (h : ∀ a, gu_BT (fun x => le (4 * i + x)) (fun x => mo (4 * i + x)) a → gu_C4 n lw hg fi se th re le mo ft ns i a) : gu_SD n lw hg op fi se th re le mo ft ns i :=
  fun a B => ⟨fun e => absurd (ho.symm.trans e) (by decide), fun e => absurd (ho.symm.trans e) (by decide), fun e => absurd (ho.symm.trans e) (by decide), fun e => absurd (ho.symm.trans e) (by decide), fun _ => h a B, fun e => absurd (ho.symm.trans e) (by decide), fun e => absurd (ho.symm.trans e) (by decide), fun e => absurd (ho.symm.trans e) (by decide)⟩
theorem gu_sd5 {i : Nat} (ho : op i = 5) (h : ∀ a, gu_BT (fun x => le (4 * i + x)) (fun x => mo (4 * i + x)) a → gu_C5 n lw hg fi se th re le mo ft ns i a) : gu_SD n lw hg op fi se th re le mo ft ns i :=
  fun a B => ⟨fun e => absurd (ho.symm.trans e) (by decide), fun e => absurd (ho.symm.trans e) (by decide), fun e => absurd (ho.symm.trans e) (by decide), fun e => absurd (ho.symm.trans e) (by decide), fun e => absurd (ho.symm.trans e) (by decide), fun _ => h a B, fun e => absurd (ho.symm.trans e) (by decide), fun e => absurd (ho.symm.trans e) (by decide)⟩
theorem gu_sd6 {i : Nat} (ho : op i = 6) (h : ∀ a, gu_BT (fun x => le (4 * i + x)) (fun x => mo (4 * i + x)) a → gu_C6 n lw hg fi se th re le mo ft ns i a) : gu_SD n lw hg op fi se th re le mo ft ns i :=
  fun a B => ⟨fun e => absurd (ho.symm.trans e) (by decide), fun e => absurd (ho.symm.trans e) (by decide), fun e => absurd (ho.symm.trans e) (by decide), fun e => absurd (ho.symm.trans e) (by decide), fun e => absurd (ho.symm.trans e) (by decide), fun e => absurd (ho.symm.trans e) (by decide), fun _ => h a B, fun e => absurd (ho.symm.trans e) (by decide)⟩
theorem gu_sd7 {i : Nat} (ho : op i = 7) (h : ∀ a, gu_BT (fun x => le (4 * i + x)) (fun x => mo (4 * i + x)) a → gu_C7 n lw hg fi se th re le mo ft ns i a) : gu_SD n lw hg op fi se th re le mo ft ns i :=
  fun a B => ⟨fun e => absurd (ho.symm.trans e) (by decide), fun e => absurd (ho.symm.trans e) (by decide), fun e => absurd (ho.symm.trans e) (by decide), fun e => absurd (ho.symm.trans e) (by decide), fun e => absurd (ho.symm.trans e) (by decide), fun e => absurd (ho.symm.trans e) (by decide), fun e => absurd (ho.symm.trans e) (by decide), fun _ => h a B⟩
theorem gu_cl {x : Int32} {N : Nat} (h : vp_in x N) : x.toNatClampNeg < N := Nat.lt_of_not_le fun z => h (Or.inr z)
theorem gu_clne {x y : Int32} (hx : vp_in x 4) (hy : vp_in y 4) (h : ¬ x = y) : x.toNatClampNeg ≠ y.toNatClampNeg := by
  obtain ⟨a, ha, rfl⟩ := vp_in_of hx (by omega)
  obtain ⟨b, hb, rfl⟩ := vp_in_of hy (by omega)
  rw [nI_clamp (by omega), nI_clamp (by omega)]
  intro e
  exact h (congrArg nI e)
theorem gu_gv {x i : Nat} {b fr to v : Int32} {a : Nat → Int32} (hb : b ≠ 0 → (lw x).toInt ≤ fr.toInt ∧ to.toInt ≤ (hg x).toInt)
    (hI : ∀ a, gu_BT (upd lo x (gu_mx fr (lw x))) (upd hi x (gu_mn (hg x) to)) a → gu_IN n re le mo (i + 1) a) (B : gu_BT lo hi a) (h1 : fr.toInt ≤ v.toInt) (h2 : v.toInt ≤ to.toInt) : gu_GV n lw hg re le mo b i x v a := by
  refine ⟨fun z => ?_, fun ok => hI _ (fun y hy => ?_)⟩
  · have h := hb z
    exact ⟨by omega, by omega⟩
  · by_cases e : y = x
    · subst e
      rw [gu_us, gu_us, gu_us]
      have k1 := gu_mxB fr (lw y)
      have k2 := gu_mnB (hg y) to
      obtain ⟨k3, k4⟩ := ok
      omega
    · rw [gu_un e, gu_un e, gu_un e]
      exact B y hy
theorem gu_lhg {x : Nat} {fr to : Int32} (L : gu_LH lw hg lo hi) : gu_LH lw hg (upd lo x (gu_mx fr (lw x))) (upd hi x (gu_mn (hg x) to)) := by
  intro y hy
  by_cases e : y = x
  · subst e
    rw [gu_us, gu_us]
    have k1 := gu_mxB fr (lw y)
    have k2 := gu_mnB (hg y) to
    omega
  · rw [gu_un e, gu_un e]
    exact L y hy
theorem gu_ulB {l k : Int32} (hk : gu_R8 k) : (l.toInt ≤ (gu_ul l k).toInt) ∧ (-k.toInt ≤ (gu_ul l k).toInt) ∧ ((gu_ul l k).toInt = l.toInt ∨ (gu_ul l k).toInt = -k.toInt) := by
  obtain ⟨h1, h2⟩ := hk
  have e : (-k).toInt = -k.toInt := gu_neg rfl (by omega) (by omega)
  unfold gu_ul
  by_cases h : -k ≤ l
  · rw [if_pos h]
    rw [Int32.le_iff_toInt_le, e] at h
    omega
  · rw [if_neg h]
    rw [Int32.le_iff_toInt_le, e] at h
    omega
theorem gu_uhB {l k : Int32} (hk : gu_R8 k) : ((gu_uh l k).toInt ≤ l.toInt) ∧ ((gu_uh l k).toInt ≤ 7 - k.toInt) ∧ ((gu_uh l k).toInt = l.toInt ∨ (gu_uh l k).toInt = 7 - k.toInt) := by
  obtain ⟨h1, h2⟩ := hk
  have e : (7 - k).toInt = 7 - k.toInt := gu_sub gu_t7 rfl (by omega) (by omega)
  unfold gu_uh
  by_cases h : l ≤ 7 - k
  · rw [if_pos h]
    rw [Int32.le_iff_toInt_le, e] at h
    omega
  · rw [if_neg h]
    rw [Int32.le_iff_toInt_le, e] at h
    omega
theorem gu_lhu {y : Nat} {k : Int32} (hk : gu_R8 k) (L : gu_LH lw hg lo hi) : gu_LH lw hg (upd lo y (gu_ul (lo y) k)) (upd hi y (gu_uh (hi y) k)) := by
  intro z hz
  by_cases e : z = y
  · subst e
    rw [gu_us, gu_us]
    have k1 := gu_ulB (l := lo z) hk
    have k2 := gu_uhB (l := hi z) hk
    have k3 := L z hz
    omega
  · rw [gu_un e, gu_un e]
    exact L z hz
theorem gu_btu {y : Nat} {k : Int32} {a : Nat → Int32} (hk : gu_R8 k) (N : gu_BN lw hg) (L : gu_LH lw hg lo hi) (hy : y < 4) (B : gu_BT lo hi a) (I : gu_IO (a y + k)) : gu_BT (upd lo y (gu_ul (lo y) k)) (upd hi y (gu_uh (hi y) k)) a := by
  intro z hz
  by_cases e : z = y
  · subst e
    rw [gu_us, gu_us]
    have k1 := gu_ulB (l := lo z) hk
    have k2 := gu_uhB (l := hi z) hk
    have k3 := B z hz
    have k4 := L z hz
    have k5 := N z
    obtain ⟨k6, k7⟩ := hk
    have ea : (a z + k).toInt = (a z).toInt + k.toInt := gu_add rfl rfl (by omega) (by omega)
    obtain ⟨k8, k9⟩ := I
    rw [ea] at k8 k9
    omega
  · rw [gu_un e, gu_un e]
    exact B z hz
theorem gu_ins {y : Nat} {k b : Int32} {a : Nat → Int32} (hk : gu_R8 k) (N : gu_BN lw hg) (L : gu_LH lw hg lo hi) (hy : y < 4) (B : gu_BT lo hi a)
    (hb : b ≠ 0 → 0 ≤ (lo y + k).toInt ∧ (hi y + k).toInt ≤ 7) (z : b ≠ 0) : gu_IO (a y + k) := by
  have k3 := B y hy
  have k4 := L y hy
  have k5 := N y
  have h := hb z
  obtain ⟨k6, k7⟩ := hk
  have ea : (a y + k).toInt = (a y).toInt + k.toInt := gu_add rfl rfl (by omega) (by omega)
  have el : (lo y + k).toInt = (lo y).toInt + k.toInt := gu_add rfl rfl (by omega) (by omega)
  have eh : (hi y + k).toInt = (hi y).toInt + k.toInt := gu_add rfl rfl (by omega) (by omega)
  rw [el, eh] at h
  unfold gu_IO
  rw [ea]
  omega
theorem gu_fo {i t : Nat} {lo2 hi2 : Nat → Int32} {fm' : Int32} {re' le' mo' wi' ft' ns' : Nat → Int32} (ar : gu_AR n lw hg lo2 hi2 t fm re le mo wi fm' re' le' mo' wi')
    (off : ∀ j, j ≠ i → ft' j = ft j ∧ ns' j = ns j) (sd : le' = le → mo' = mo → gu_SD n lw hg op fi se th re' le' mo' ft' ns' i) :
    gu_FO n lw hg op fi se th i fm re le mo wi ft ns fm' re' le' mo' wi' ft' ns' := by
  obtain ⟨a1, a2, a3, a4⟩ := ar
  refine ⟨a1, a2, off, ?_⟩
  rcases a4 with h | h
  · exact Or.inl ⟨h, sd h.2.2.1 h.2.2.2.1⟩
  · exact Or.inr h
theorem gu_rowL {i : Nat} (hi14 : i < 14) (A : gu_AI lw hg re le mo wi) (r1 : re i = 1) (hrow : ∀ x, x < 4 → lo x = le (4 * i + x) ∧ hi x = mo (4 * i + x)) : gu_LH lw hg lo hi := by
  intro x hx
  rcases A i hi14 with h | h
  · rw [r1] at h
    exact absurd h.1 (by decide)
  · rw [(hrow x hx).1, (hrow x hx).2]
    have := h.2.1 x hx
    omega
theorem gu_rowB {i : Nat} {a : Nat → Int32} (hrow : ∀ x, x < 4 → lo x = le (4 * i + x) ∧ hi x = mo (4 * i + x)) (B : gu_BT (fun x => le (4 * i + x)) (fun x => mo (4 * i + x)) a) : gu_BT lo hi a := by
  intro x hx
  rw [(hrow x hx).1, (hrow x hx).2]
  exact B x hx
theorem gu_f213 {post : SX → Prop} {i : Nat} (hin : i < n) (hn : n ≤ 14) (A : gu_AI lw hg re le mo wi) (L : gu_LH lw hg lo hi)
    (H : ∀ (fm' : Int32) (re' le' mo' wi' : Nat → Int32), gu_AR n lw hg lo hi (i + 1) fm re le mo wi fm' re' le' mo' wi' → post (nI n, fe, fp, fc, fk, fm', lw, hg, op, fi, se, th, ce, va, re', le', mo', wi', ft, ns, lo, hi)) : wX_followOne_213 post (nI i) (nI n) fe fp fc fk fm lw hg op fi se th ce va re le mo wi ft ns lo hi := by
  unfold wX_followOne_213
  rw [nI_1 i]
  exact gu_arr (by omega) hn A L H
theorem gu_f168 {post : SX → Prop} {i : Nat} (hin : i < n) (hn : n ≤ 14) (A : gu_AI lw hg re le mo wi) (L : gu_LH lw hg lo hi)
    (H : ∀ (fm' : Int32) (re' le' mo' wi' : Nat → Int32), gu_AR n lw hg lo hi (i + 1) fm re le mo wi fm' re' le' mo' wi' → post (nI n, fe, fp, fc, fk, fm', lw, hg, op, fi, se, th, ce, va, re', le', mo', wi', ft, ns, lo, hi)) : wX_followLess_168 post (nI i) (nI n) fe fp fc fk fm lw hg op fi se th ce va re le mo wi ft ns lo hi := by
  unfold wX_followLess_168
  rw [nI_1 i]
  exact gu_arr (by omega) hn A L H
/-! less -/
theorem gu_f131 {post : SX → Prop} {x y z : Int32} {i : Nat} (vx : vp_in x 4) (vy : vp_in y 4)
    (H : wX_followLess_168 post (nI i) (nI n) fe fp fc fk fm lw hg op fi se th ce va re le mo wi ft ns (upd lo x.toNatClampNeg z) (upd hi y.toNatClampNeg (gu_mn (hi x.toNatClampNeg) (hi y.toNatClampNeg)))) : wX_followLess_131 post (nI i) x y z x (nI n) fe fp fc fk fm lw hg op fi se th ce va re le mo wi ft ns lo hi := by
  unfold wX_followLess_131
  refine ⟨vx, nm_e ⟨vy, vx, br_c (fun h => ⟨vx, ?_⟩) (fun h => ⟨vy, ?_⟩)⟩⟩
  · unfold wX_followLess_167
    rw [show gu_mn (hi x.toNatClampNeg) (hi y.toNatClampNeg) = hi x.toNatClampNeg from if_pos h] at H
    exact ⟨vy, nm_e H⟩
  · unfold wX_followLess_167
    rw [show gu_mn (hi x.toNatClampNeg) (hi y.toNatClampNeg) = hi y.toNatClampNeg from if_neg h] at H
    exact ⟨vy, nm_e H⟩
theorem gu_f84 {post : SX → Prop} {x y z : Int32} {i t : Nat} (ht : t < 15) (hin : i < n) (hn : n ≤ 14) (A : gu_AI lw hg re le mo wi) (r1 : re i = 1) (vx : vp_in x 4) (vy : vp_in y 4)
    (L1 : gu_LH lw hg (upd lo y.toNatClampNeg z) hi)
    (H : ∀ (fm1 : Int32) (re1 le1 mo1 wi1 : Nat → Int32), gu_AR n lw hg (upd lo y.toNatClampNeg z) hi t fm re le mo wi fm1 re1 le1 mo1 wi1 →
      ∀ lo2 hi2 : Nat → Int32, (∀ x, x < 4 → lo2 x = le1 (4 * i + x) ∧ hi2 x = mo1 (4 * i + x)) →
      ∀ (fm2 : Int32) (re2 le2 mo2 wi2 : Nat → Int32), gu_AR n lw hg (upd lo2 x.toNatClampNeg (gu_mx (lo2 x.toNatClampNeg) (lo2 y.toNatClampNeg))) (upd hi2 y.toNatClampNeg (gu_mn (hi2 x.toNatClampNeg) (hi2 y.toNatClampNeg))) (i + 1) fm1 re1 le1 mo1 wi1 fm2 re2 le2 mo2 wi2 →
      ∀ lo3 hi3 : Nat → Int32, post (nI n, fe, fp, fc, fk, fm2, lw, hg, op, fi, se, th, ce, va, re2, le2, mo2, wi2, ft, ns, lo3, hi3)) :
    wX_followLess_84 post (nI i) x y (nI t) z y (nI n) fe fp fc fk fm lw hg op fi se th ce va re le mo wi ft ns lo hi := by
  unfold wX_followLess_84
  refine ⟨vy, nm_e (gu_arr ht hn A L1 (fun fm1 re1 le1 mo1 wi1 ar => ?_))⟩
  have s1 : re1 i = 1 := by
    have h : gu_IN n re le mo i (fun x => le (4 * i + x)) := by
      refine Or.inr ⟨r1, fun x hx => ?_⟩
      rcases A i (by omega) with h | h
      · rw [r1] at h
        exact absurd h.1 (by decide)
      · exact ⟨Int.le_refl _, (h.2.1 x hx).2.1⟩
    rcases ar.2.1 i _ h with h2 | h2
    · omega
    · exact h2.1
  refine gu_take (by omega) (fun lo2 hi2 hrow => ?_)
  have L2 := gu_rowL (by omega) ar.1 s1 hrow
  have L3 : gu_LH lw hg (upd lo2 x.toNatClampNeg (gu_mx (lo2 x.toNatClampNeg) (lo2 y.toNatClampNeg))) (upd hi2 y.toNatClampNeg (gu_mn (hi2 x.toNatClampNeg) (hi2 y.toNatClampNeg))) := by
    intro z hz
    have k1 := gu_mxB (lo2 x.toNatClampNeg) (lo2 y.toNatClampNeg)
    have k2 := gu_mnB (hi2 x.toNatClampNeg) (hi2 y.toNatClampNeg)
    have k3 := L2 z hz
    constructor
    · by_cases e : z = x.toNatClampNeg
      · rw [e, gu_us]
        rw [e] at k3
        omega
      · rw [gu_un e]
        exact k3.1
    · by_cases e : z = y.toNatClampNeg
      · rw [e, gu_us]
        rw [e] at k3
        omega
      · rw [gu_un e]
        exact k3.2
  have fin := H fm1 re1 le1 mo1 wi1 ar lo2 hi2 hrow
  refine ⟨vx, vy, br_c (fun h => ⟨vy, gu_f131 vx vy ?_⟩) (fun h => ⟨vx, gu_f131 vx vy ?_⟩)⟩
  · rw [← show gu_mx (lo2 x.toNatClampNeg) (lo2 y.toNatClampNeg) = lo2 y.toNatClampNeg from if_pos h]
    exact gu_f168 hin hn ar.1 L3 (fun a b c d e h => fin a b c d e h _ _)
  · have e : upd lo2 x.toNatClampNeg (lo2 x.toNatClampNeg) = upd lo2 x.toNatClampNeg (gu_mx (lo2 x.toNatClampNeg) (lo2 y.toNatClampNeg)) := by
      rw [show gu_mx (lo2 x.toNatClampNeg) (lo2 y.toNatClampNeg) = lo2 x.toNatClampNeg from if_neg h]
    rw [e]
    exact gu_f168 hin hn ar.1 L3 (fun a b c d e h => fin a b c d e h _ _)
def gu_FL (n : Nat) (lw hg lo hi : Nat → Int32) (i x y t : Nat) (fm : Int32) (re le mo wi : Nat → Int32) (fm' : Int32) (re' le' mo' wi' : Nat → Int32) : Prop :=
  gu_AI lw hg re' le' mo' wi' ∧ (∀ j a, gu_IN n re le mo j a → gu_IN n re' le' mo' j a) ∧
  ((gu_SM fm re le mo wi fm' re' le' mo' wi' ∧ ∀ a, gu_BT lo hi a → (¬ a y ≤ a x → gu_IN n re' le' mo' t a) ∧ (a y ≤ a x → gu_IN n re' le' mo' (i + 1) a)) ∨ (fm' = 1 ∧ gu_mu lw hg le' mo' wi' < gu_mu lw hg le mo wi))
theorem gu_flL {i x y t : Nat} (N : gu_BN lw hg) (L : gu_LH lw hg lo hi) (hx : x < 4) (hy : y < 4) (hxy : x ≠ y) (hrow : ∀ z, z < 4 → lo z = le (4 * i + z) ∧ hi z = mo (4 * i + z)) (P : gu_PO lo hi)
    {fm1 fm2 : Int32} {re1 le1 mo1 wi1 re2 le2 mo2 wi2 lo2 hi2 : Nat → Int32}
    (a1 : gu_AR n lw hg (upd lo y (gu_mx (lo y) (lo x + 1))) (upd hi x (gu_mn (hi y - 1) (hi x))) t fm re le mo wi fm1 re1 le1 mo1 wi1)
    (hr2 : ∀ z, z < 4 → lo2 z = le1 (4 * i + z) ∧ hi2 z = mo1 (4 * i + z))
    (a2 : gu_AR n lw hg (upd lo2 x (gu_mx (lo2 x) (lo2 y))) (upd hi2 y (gu_mn (hi2 x) (hi2 y))) (i + 1) fm1 re1 le1 mo1 wi1 fm2 re2 le2 mo2 wi2) :
    gu_FL n lw hg lo hi i x y t fm re le mo wi fm2 re2 le2 mo2 wi2 := by
  obtain ⟨p1, p2, p3, p4⟩ := a1
  obtain ⟨q1, q2, q3, q4⟩ := a2
  refine ⟨q1, fun j a h => q2 j a (p2 j a h), ?_⟩
  rcases p4 with ⟨e1, e2, e3, e4, e5⟩ | ⟨d1, d2⟩
  · rcases q4 with ⟨g1, g2, g3, g4, g5⟩ | ⟨g1, g2⟩
    · refine Or.inl ⟨⟨g1.trans e1, g2.trans e2, g3.trans e3, g4.trans e4, g5.trans e5⟩, fun a B => ⟨fun h => ?_, fun h => ?_⟩⟩
      · refine q2 t a (p3 a fun z hz => ?_)
        rw [Int32.le_iff_toInt_le] at h
        have bx := B x hx
        have bey := B y hy
        have lx := L x hx
        have ly := L y hy
        have nx := N x
        have ny := N y
        have s1 : (lo x + 1).toInt = (lo x).toInt + 1 := gu_add rfl gu_t1 (by omega) (by omega)
        have s2 : (hi y - 1).toInt = (hi y).toInt - 1 := gu_sub rfl gu_t1 (by omega) (by omega)
        have k1 := gu_mxB (lo y) (lo x + 1)
        have k2 := gu_mnB (hi y - 1) (hi x)
        rw [s1] at k1
        rw [s2] at k2
        have bz := B z hz
        constructor
        · by_cases e : z = y
          · rw [e, gu_us]
            omega
          · rw [gu_un e]
            exact bz.1
        · by_cases e : z = x
          · rw [e, gu_us]
            omega
          · rw [gu_un e]
            exact bz.2
      · refine q3 a fun z hz => ?_
        rw [Int32.le_iff_toInt_le] at h
        have bx := B x hx
        have bey := B y hy
        have f : ∀ z, z < 4 → lo2 z = lo z ∧ hi2 z = hi z := fun z hz => by
          rw [(hr2 z hz).1, (hr2 z hz).2, (hrow z hz).1, (hrow z hz).2, e3, e4]
          exact ⟨rfl, rfl⟩
        have k1 := gu_mxB (lo2 x) (lo2 y)
        have k2 := gu_mnB (hi2 x) (hi2 y)
        rw [(f x hx).1, (f y hy).1] at k1
        rw [(f x hx).2, (f y hy).2] at k2
        have bz := B z hz
        constructor
        · by_cases e : z = x
          · rw [e, gu_us, (f x hx).1, (f y hy).1]
            omega
          · rw [gu_un e, (f z hz).1]
            exact bz.1
        · by_cases e : z = y
          · rw [e, gu_us, (f x hx).2, (f y hy).2]
            omega
          · rw [gu_un e, (f z hz).2]
            exact bz.2
    · refine Or.inr ⟨g1, ?_⟩
      rw [e3, e4, e5] at g2
      exact g2
  · rcases q4 with ⟨g1, g2, g3, g4, g5⟩ | ⟨g1, g2⟩
    · refine Or.inr ⟨g1.trans d1, ?_⟩
      rw [g3, g4, g5]
      exact d2
    · exact Or.inr ⟨g1, Nat.lt_trans g2 d2⟩
theorem gu_fless {post : SX → Prop} {x y : Int32} {i t : Nat} (ht : t < 15) (hin : i < n) (hn : n ≤ 14) (N : gu_BN lw hg) (A : gu_AI lw hg re le mo wi) (r1 : re i = 1) (vx : vp_in x 4) (vy : vp_in y 4)
    (hrow : ∀ z, z < 4 → lo z = le (4 * i + z) ∧ hi z = mo (4 * i + z))
    (H : ∀ (fm' : Int32) (re' le' mo' wi' lo' hi' : Nat → Int32), gu_FL n lw hg lo hi i x.toNatClampNeg y.toNatClampNeg t fm re le mo wi fm' re' le' mo' wi' → post (nI n, fe, fp, fc, fk, fm', lw, hg, op, fi, se, th, ce, va, re', le', mo', wi', ft, ns, lo', hi')) :
    wpX_followLess post (nI n, fe, fp, fc, fk, fm, lw, hg, op, fi, se, th, ce, va, re, le, mo, wi, ft, ns, lo, hi) (nI i) x y (nI t) := by
  have L := gu_rowL (by omega) A r1 hrow
  have hx := gu_cl vx
  have hy := gu_cl vy
  have P : gu_PO lo hi := fun z hz => by
    rw [(hrow z hz).1, (hrow z hz).2, Int32.le_iff_toInt_le]
    rcases A i (by omega) with h | h
    · rw [r1] at h
      exact absurd h.1 (by decide)
    · exact (h.2.1 z hz).2.1
  have lx := L _ hx
  have ly := L _ hy
  have nx := N x.toNatClampNeg
  have ny := N y.toNatClampNeg
  have px := Int32.le_iff_toInt_le.mp (P _ hx)
  have py := Int32.le_iff_toInt_le.mp (P _ hy)
  have s1 : (lo x.toNatClampNeg + 1).toInt = (lo x.toNatClampNeg).toInt + 1 := gu_add rfl gu_t1 (by omega) (by omega)
  have s2 : (hi y.toNatClampNeg - 1).toInt = (hi y.toNatClampNeg).toInt - 1 := gu_sub rfl gu_t1 (by omega) (by omega)
  unfold wpX_followLess
  by_cases e : x = y
  · refine br_t e (gu_f168 hin hn A L (fun fm' re' le' mo' wi' ar => H _ _ _ _ _ _ _ ?_))
    obtain ⟨a1, a2, a3, a4⟩ := ar
    refine ⟨a1, a2, ?_⟩
    rcases a4 with h | h
    · refine Or.inl ⟨h, fun a B => ⟨fun q => absurd ?_ q, fun _ => a3 a B⟩⟩
      rw [e]
      exact Int32.le_refl _
    · exact Or.inr h
  · have hxy := gu_clne vx vy e
    have L1 : gu_LH lw hg (upd lo y.toNatClampNeg (gu_mx (lo y.toNatClampNeg) (lo x.toNatClampNeg + 1))) (upd hi x.toNatClampNeg (gu_mn (hi y.toNatClampNeg - 1) (hi x.toNatClampNeg))) := by
      intro z hz
      have k1 := gu_mxB (lo y.toNatClampNeg) (lo x.toNatClampNeg + 1)
      have k2 := gu_mnB (hi y.toNatClampNeg - 1) (hi x.toNatClampNeg)
      have lz := L z hz
      constructor
      · by_cases e : z = y.toNatClampNeg
        · rw [e, gu_us]
          omega
        · rw [gu_un e]
          exact lz.1
      · by_cases e : z = x.toNatClampNeg
        · rw [e, gu_us]
          omega
        · rw [gu_un e]
          exact lz.2
    have g84 : wX_followLess_84 post (nI i) x y (nI t) (gu_mx (lo y.toNatClampNeg) (lo x.toNatClampNeg + 1)) y (nI n) fe fp fc fk fm lw hg op fi se th ce va re le mo wi ft ns lo (upd hi x.toNatClampNeg (gu_mn (hi y.toNatClampNeg - 1) (hi x.toNatClampNeg))) :=
      gu_f84 ht hin hn A r1 vx vy L1 (fun fm1 re1 le1 mo1 wi1 ar1 lo2 hi2 hr2 fm2 re2 le2 mo2 wi2 ar2 lo3 hi3 => H _ _ _ _ _ _ _ (gu_flL N L hx hy hxy hrow P ar1 hr2 ar2))
    have g44 : wX_followLess_44 post (nI i) x y (nI t) (gu_mn (hi y.toNatClampNeg - 1) (hi x.toNatClampNeg)) x (nI n) fe fp fc fk fm lw hg op fi se th ce va re le mo wi ft ns lo hi := by
      unfold wX_followLess_44
      refine ⟨vx, nm_e ⟨vy, vx, br_c (fun h => ⟨vx, ?_⟩) (fun h => ⟨vy, ?_⟩)⟩⟩
      · rw [show gu_mx (lo y.toNatClampNeg) (lo x.toNatClampNeg + 1) = lo x.toNatClampNeg + 1 from if_pos h] at g84
        exact g84
      · rw [show gu_mx (lo y.toNatClampNeg) (lo x.toNatClampNeg + 1) = lo y.toNatClampNeg from if_neg h] at g84
        exact g84
    refine br_f e ⟨vx, vy, br_c (fun h => ⟨vy, ?_⟩) (fun h => ⟨vx, ?_⟩)⟩
    · rw [show gu_mn (hi y.toNatClampNeg - 1) (hi x.toNatClampNeg) = hi y.toNatClampNeg - 1 from if_pos h] at g44
      exact g44
    · rw [show gu_mn (hi y.toNatClampNeg - 1) (hi x.toNatClampNeg) = hi x.toNatClampNeg from if_neg h] at g44
      exact g44
end RgFollow
end
section
section RgOne
variable {n : Nat} {fe fp fc fk fm : Int32} {lw hg op fi se th ce va re le mo wi ft ns lo hi : Nat → Int32}
theorem gu_offF {i : Nat} {b : Int32} : ∀ j, j ≠ i → upd ft i b j = ft j ∧ ns j = ns j := fun j hj => ⟨gu_un hj, rfl⟩
theorem gu_offN {i : Nat} {b : Int32} : ∀ j, j ≠ i → ft j = ft j ∧ upd ns i b j = ns j := fun j hj => ⟨rfl, gu_un hj⟩
theorem gu_offB {i : Nat} {b c : Int32} : ∀ j, j ≠ i → upd ft i c j = ft j ∧ upd ns i b j = ns j := fun j hj => ⟨gu_un hj, gu_un hj⟩
/-- a variable gets a number between fr and to: what the rest of the turn owes -/
theorem gu_goGet {post : SX → Prop} {i : Nat} {x fr to : Int32} {ft0 ns0 : Nat → Int32} (hin : i < n) (hn : n ≤ 14) (A : gu_AI lw hg re le mo wi) (vx : vp_in x 4) (L : gu_LH lw hg lo hi)
    (off : ∀ b : Int32, ∀ j, j ≠ i → upd ft i b j = ft0 j ∧ ns j = ns0 j)
    (sd : ∀ (b : Int32) (re' : Nat → Int32), (∀ a v, gu_BT lo hi a → fr.toInt ≤ v.toInt → v.toInt ≤ to.toInt → gu_GV n lw hg re' le mo b i x.toNatClampNeg v a) → gu_SD n lw hg op fi se th re' le mo (upd ft i b) ns i)
    (H : ∀ (fm' : Int32) (re' le' mo' wi' ft' ns' lo' hi' : Nat → Int32), gu_FO n lw hg op fi se th i fm re le mo wi ft0 ns0 fm' re' le' mo' wi' ft' ns' → post (nI n, fe, fp, fc, fk, fm', lw, hg, op, fi, se, th, ce, va, re', le', mo', wi', ft', ns', lo', hi'))
    (b : Int32) (hb : b ≠ 0 → (lw x.toNatClampNeg).toInt ≤ fr.toInt ∧ to.toInt ≤ (hg x.toNatClampNeg).toInt) :
    wX_followOne_213 post (nI i) (nI n) fe fp fc fk fm lw hg op fi se th ce va re le mo wi (upd ft i b) ns (upd lo x.toNatClampNeg (gu_mx fr (lw x.toNatClampNeg))) (upd hi x.toNatClampNeg (gu_mn (hg x.toNatClampNeg) to)) := by
  refine gu_f213 hin hn A (gu_lhg L) (fun fm' re' le' mo' wi' ar => H _ _ _ _ _ _ _ _ _ (gu_fo ar (off b) (fun e1 e2 => ?_)))
  subst e1 e2
  exact sd b re' (fun a v B h1 h2 => gu_gv hb ar.2.2.1 B h1 h2)
theorem gu_fone {post : SX → Prop} {i : Nat} (hin : i < n) (hn : n ≤ 14) (N : gu_BN lw hg) (A : gu_AI lw hg re le mo wi) (r1 : re i = 1) (P : gu_XP (op i) (fi i) (se i) (th i))
    (H : ∀ (fm' : Int32) (re' le' mo' wi' ft' ns' lo' hi' : Nat → Int32), gu_FO n lw hg op fi se th i fm re le mo wi ft ns fm' re' le' mo' wi' ft' ns' → post (nI n, fe, fp, fc, fk, fm', lw, hg, op, fi, se, th, ce, va, re', le', mo', wi', ft', ns', lo', hi')) :
    wpX_followOne post (nI n, fe, fp, fc, fk, fm, lw, hg, op, fi, se, th, ce, va, re, le, mo, wi, ft, ns, lo, hi) (nI i) := by
  have ci : (nI i).toNatClampNeg = i := nI_clamp (by omega)
  have vi : vp_in (nI i) 14 := vp_in_nI (by omega) (by omega)
  have h14 : i < 14 := by omega
  unfold wpX_followOne
  refine gu_take (by omega) (fun lo hi hrow => ?_)
  have L : gu_LH lw hg lo hi := gu_rowL h14 A r1 hrow
  have R : ∀ a, gu_BT (fun x => le (4 * i + x)) (fun x => mo (4 * i + x)) a → gu_BT lo hi a := fun a B => gu_rowB hrow B
  obtain ⟨vx, vy, P⟩ := P
  have hx := gu_cl vx
  have hy := gu_cl vy
  refine ⟨vi, nm_r (e' := op i) (by rw [ci]) ⟨vi, nm_r (e' := fi i) (by rw [ci]) ⟨vi, nm_r (e' := se i) (by rw [ci]) ⟨vi, nm_r (e' := th i) (by rw [ci]) ?_⟩⟩⟩⟩
  have bnd : ∀ a, gu_BT lo hi a → ∀ z, z < 4 → -100 ≤ (lo z).toInt ∧ (lo z).toInt ≤ (a z).toInt ∧ (a z).toInt ≤ (hi z).toInt ∧ (hi z).toInt ≤ 100 := fun a B z hz => by
    have k1 := B z hz
    have k2 := L z hz
    have k3 := N z
    omega
  have bn2 : ∀ z, z < 4 → -100 ≤ (lo z).toInt ∧ (lo z).toInt ≤ 100 ∧ -100 ≤ (hi z).toInt ∧ (hi z).toInt ≤ 100 := fun z hz => by
    rcases A i h14 with h | h
    · rw [r1] at h
      exact absurd h.1 (by decide)
    · have k1 := h.2.1 z hz
      have k2 := N z
      rw [← (hrow z hz).1, ← (hrow z hz).2] at k1
      omega
  rcases P with ⟨o, k⟩ | ⟨o, k⟩ | ⟨o, k⟩ | ⟨o, k⟩ | ⟨o, k⟩ | ⟨o, k⟩ | ⟨o, k⟩ | ⟨o, k⟩
  · -- constant
    refine br_f (by rw [o]; decide) (br_t (by rw [o]; decide) (br_t o (gu_get h14 vx (gu_goGet hin hn A vx L (fun b => gu_offF) (fun b re' g => gu_sd0 o fun a B => ?_) H))))
    unfold gu_C0
    rw [gu_us]
    exact g a _ (R a B) (Int.le_refl _) (Int.le_refl _)
  · -- plus
    refine br_f (by rw [o]; decide) (br_t (by rw [o]; decide) (br_f (by rw [o]; decide) (br_t o ⟨vy, vy, gu_get h14 vx (gu_goGet hin hn A vx L (fun b => gu_offF) (fun b re' g => gu_sd1 o fun a B => ?_) H)⟩)))
    unfold gu_C1
    rw [gu_us]
    have k1 := bnd a (R a B) _ hy
    obtain ⟨k2, k3⟩ := k
    have e1 : (lo (se i).toNatClampNeg + th i).toInt = (lo (se i).toNatClampNeg).toInt + (th i).toInt := gu_add rfl rfl (by omega) (by omega)
    have e2 : (hi (se i).toNatClampNeg + th i).toInt = (hi (se i).toNatClampNeg).toInt + (th i).toInt := gu_add rfl rfl (by omega) (by omega)
    have e3 : (a (se i).toNatClampNeg + th i).toInt = (a (se i).toNatClampNeg).toInt + (th i).toInt := gu_add rfl rfl (by omega) (by omega)
    exact g a _ (R a B) (by rw [e1, e3]; omega) (by rw [e2, e3]; omega)
  · -- sum
    refine br_f (by rw [o]; decide) (br_t (by rw [o]; decide) (br_f (by rw [o]; decide) (br_f (by rw [o]; decide) (br_t o ⟨vy, k, vy, k, gu_get h14 vx (gu_goGet hin hn A vx L (fun b => gu_offF) (fun b re' g => gu_sd2 o fun a B => ?_) H)⟩))))
    unfold gu_C2
    rw [gu_us]
    have k1 := bnd a (R a B) _ hy
    have k2 := bnd a (R a B) _ (gu_cl k)
    have e1 : (lo (se i).toNatClampNeg + lo (th i).toNatClampNeg).toInt = (lo (se i).toNatClampNeg).toInt + (lo (th i).toNatClampNeg).toInt := gu_add rfl rfl (by omega) (by omega)
    have e2 : (hi (se i).toNatClampNeg + hi (th i).toNatClampNeg).toInt = (hi (se i).toNatClampNeg).toInt + (hi (th i).toNatClampNeg).toInt := gu_add rfl rfl (by omega) (by omega)
    have e3 : (a (se i).toNatClampNeg + a (th i).toNatClampNeg).toInt = (a (se i).toNatClampNeg).toInt + (a (th i).toNatClampNeg).toInt := gu_add rfl rfl (by omega) (by omega)
    exact g a _ (R a B) (by rw [e1, e3]; omega) (by rw [e2, e3]; omega)
  · -- mask
    refine br_f (by rw [o]; decide) (br_t (by rw [o]; decide) (br_f (by rw [o]; decide) (br_f (by rw [o]; decide) (br_f (by rw [o]; decide) (br_t o (gu_fmask h14 vx vy k.1 (fun b fr to hb hm => gu_goGet hin hn A vx L (fun b => gu_offF) (fun b re' g => gu_sd3 o fun a B => ?_) H b hb)))))))
    unfold gu_C3
    rw [gu_us]
    have k1 := R a B _ hy
    have k2 := hm _ k1.1 k1.2
    exact g a _ (R a B) k2.1 k2.2
  · -- load
    refine br_f (by rw [o]; decide) (br_t (by rw [o]; decide) (br_f (by rw [o]; decide) (br_f (by rw [o]; decide) (br_f (by rw [o]; decide) (br_f (by rw [o]; decide) (gu_use h14 vy (fun b hb => ?_)))))))
    refine gu_poss (fun p => br_t o (br_f (by decide) (gu_get h14 vx (gu_goGet hin hn A vx (gu_lhu k L) (fun c => gu_offB) (fun c re' g => gu_sd4 o fun a B => ?_) H)))) (fun p => br_t o (br_t rfl (gu_f213 hin hn A (gu_lhu k L) (fun fm' re' le' mo' wi' ar => H _ _ _ _ _ _ _ _ _ (gu_fo ar gu_offN (fun e1 e2 => gu_sd4 o fun a B => ?_))))))
    · unfold gu_C4
      rw [gu_us, gu_us]
      refine ⟨gu_ins k N L hy (R a B) hb, fun I v rv => g a v (gu_btu k N L hy (R a B) I) ?_ ?_⟩
      · rw [gu_tM]; exact rv.1
      · rw [gu_tH]; exact rv.2
    · subst e1 e2
      unfold gu_C4
      rw [gu_us]
      exact ⟨gu_ins k N L hy (R a B) hb, fun I v rv => absurd (gu_btpo (gu_btu k N L hy (R a B) I)) p⟩
  · -- store
    refine br_f (by rw [o]; decide) (br_t (by rw [o]; decide) (br_f (by rw [o]; decide) (br_f (by rw [o]; decide) (br_f (by rw [o]; decide) (br_f (by rw [o]; decide) (gu_use h14 vy (fun b hb => ?_)))))))
    have fin : wX_followOne_213 post (nI i) (nI n) fe fp fc fk fm lw hg op fi se th ce va re le mo wi ft (upd ns i b) (upd lo (se i).toNatClampNeg (gu_ul (lo (se i).toNatClampNeg) (th i))) (upd hi (se i).toNatClampNeg (gu_uh (hi (se i).toNatClampNeg) (th i))) := by
      refine gu_f213 hin hn A (gu_lhu k L) (fun fm' re' le' mo' wi' ar => H _ _ _ _ _ _ _ _ _ (gu_fo ar gu_offN (fun e1 e2 => gu_sd5 o fun a B => ?_)))
      subst e1 e2
      unfold gu_C5
      rw [gu_us]
      exact ⟨gu_ins k N L hy (R a B) hb, fun I => ar.2.2.1 a (gu_btu k N L hy (R a B) I)⟩
    exact gu_poss (fun p => br_f (by rw [o]; decide) fin) (fun p => br_f (by rw [o]; decide) fin)
  · -- less
    obtain ⟨t, ht, et⟩ := vp_in_of k (by omega)
    have ct : (th i).toNatClampNeg = t := by rw [et]; exact nI_clamp (by omega)
    rw [et]
    refine br_t o (gu_fless ht hin hn N A r1 vx vy hrow (fun fm' re' le' mo' wi' lo' hi' fl => H _ _ _ _ _ _ _ _ _ ?_))
    obtain ⟨f1, f2, f3⟩ := fl
    refine ⟨f1, f2, fun j hj => ⟨rfl, rfl⟩, ?_⟩
    rcases f3 with ⟨s, f3⟩ | f3
    · refine Or.inl ⟨s, gu_sd6 o fun a B => ?_⟩
      rw [s.2.2.1, s.2.2.2.1] at B
      unfold gu_C6
      rw [ct]
      exact f3 a (R a B)
    · exact Or.inr f3
  · -- jump
    obtain ⟨t, ht, et⟩ := vp_in_of k (by omega)
    have ct : (th i).toNatClampNeg = t := by rw [et]; exact nI_clamp (by omega)
    rw [et]
    refine br_f (by rw [o]; decide) (br_f (by rw [o]; decide) (gu_arr ht hn A L (fun fm' re' le' mo' wi' ar => H _ _ _ _ _ _ _ _ _ (gu_fo ar (fun j hj => ⟨rfl, rfl⟩) (fun e1 e2 => gu_sd7 o fun a B => ?_)))))
    subst e1 e2
    unfold gu_C7
    rw [ct]
    exact ar.2.2.1 a (R a B)
end RgOne
end
section
section RgAnalyse
def gu_nz (lw hg : Nat → Int32) (x : Nat) : Int32 := if lw x ≤ 0 then (if 0 ≤ hg x then 0 else hg x) else lw x
/-- what is known once the program has been followed -/
def gu_KN (n : Nat) (lw hg op fi se th re le mo ft ns : Nat → Int32) : Prop :=
  (∀ a : Nat → Int32, (∀ x, x < 4 → a x = gu_nz lw hg x) → gu_IN n re le mo 0 a) ∧ ∀ j, j < n → re j = 1 → gu_SD n lw hg op fi se th re le mo ft ns j
def gu_RD (n : Nat) (lw hg op fi se th : Nat → Int32) (M i : Nat) (fm : Int32) (re le mo wi ft ns : Nat → Int32) : Prop :=
  gu_AI lw hg re le mo wi ∧ (∀ a : Nat → Int32, (∀ x, x < 4 → a x = gu_nz lw hg x) → gu_IN n re le mo 0 a) ∧
  ((fm = 0 ∧ gu_mu lw hg le mo wi ≤ M ∧ ∀ j, j < i → re j = 1 → gu_SD n lw hg op fi se th re le mo ft ns j) ∨ (fm = 1 ∧ gu_mu lw hg le mo wi < M))
variable {n : Nat} {fe fp fc fk fm : Int32} {lw hg op fi se th ce va re le mo wi ft ns lo hi : Nat → Int32}
theorem gu_near {post : Int32 → Prop} {x : Nat} (hx : x < 4) (H : post (gu_nz lw hg x)) : wpX_nearestToZero post (nI n, fe, fp, fc, fk, fm, lw, hg, op, fi, se, th, ce, va, re, le, mo, wi, ft, ns, lo, hi) (nI x) := by
  have c1 : (nI x).toNatClampNeg = x := nI_clamp (by omega)
  have v1 : vp_in (nI x) 4 := vp_in_nI (by omega) (by omega)
  unfold wpX_nearestToZero
  refine ⟨v1, ?_⟩
  rw [c1]
  unfold gu_nz at H
  refine br_c (fun h => ⟨v1, br_c (fun h2 => ?_) (fun h2 => ⟨v1, ?_⟩)⟩) (fun h => ⟨v1, ?_⟩)
  · rw [if_pos h, if_pos h2] at H; exact H
  · rw [if_pos h, if_neg h2] at H; exact H
  · rw [if_neg h] at H; exact H
theorem gu_nzB (N : gu_BN lw hg) (x : Nat) : (lw x).toInt ≤ (gu_nz lw hg x).toInt ∧ (gu_nz lw hg x).toInt ≤ (hg x).toInt := by
  have h := N x
  unfold gu_nz
  by_cases h1 : lw x ≤ 0
  · rw [if_pos h1]
    rw [Int32.le_iff_toInt_le, gu_t0] at h1
    by_cases h2 : 0 ≤ hg x
    · rw [if_pos h2, gu_t0]
      rw [Int32.le_iff_toInt_le, gu_t0] at h2
      exact ⟨h1, h2⟩
    · rw [if_neg h2]
      exact ⟨h.2.1, Int.le_refl _⟩
  · rw [if_neg h1]
    exact ⟨Int.le_refl _, h.2.1⟩
/-- one round over the instructions -/
theorem gu_an102 {post : SX → Prop} {J : Int32 → Int32 → Int32 → Int32 → Int32 → Int32 → Int32 → (Nat → Int32) → (Nat → Int32) → (Nat → Int32) → (Nat → Int32) → (Nat → Int32) → (Nat → Int32) → (Nat → Int32) → (Nat → Int32) → (Nat → Int32) → (Nat → Int32) → (Nat → Int32) → (Nat → Int32) → (Nat → Int32) → (Nat → Int32) → (Nat → Int32) → (Nat → Int32) → Prop} {r M : Nat} (hn : n ≤ 14) (N : gu_BN lw hg) (P : ∀ j, gu_XP (op j) (fi j) (se j) (th j))
    (H : ∀ (fm : Int32) (re le mo wi ft ns lo hi : Nat → Int32), gu_RD n lw hg op fi se th M n fm re le mo wi ft ns → J (nI (r + 1)) (nI n) fe fp fc fk fm lw hg op fi se th ce va re le mo wi ft ns lo hi) :
    ∀ d i, i + d = n → ∀ (fm : Int32) (re le mo wi ft ns lo hi : Nat → Int32), gu_RD n lw hg op fi se th M i fm re le mo wi ft ns → wX_analyse_102 post J (nI r) (d + 1) (nI i) (nI n) fe fp fc fk fm lw hg op fi se th ce va re le mo wi ft ns lo hi := by
  intro d
  induction d with
  | zero =>
    intro i hi' fm re le mo wi ft ns lo hi R
    have e : i = n := by omega
    subst e
    exact br_t (Int32.le_refl _) (nm_r (nI_1 r) (H _ _ _ _ _ _ _ _ _ R))
  | succ d ih =>
    intro i hi' fm re le mo wi ft ns lo hi R
    have c1 : (nI i).toNatClampNeg = i := nI_clamp (by omega)
    have v1 : vp_in (nI i) 15 := vp_in_nI (by omega) (by omega)
    obtain ⟨A, Z, R⟩ := R
    refine br_f (nI_ge (by omega) (by omega)) ⟨v1, ?_⟩
    rw [c1]
    refine br_c (fun h => nm_r (nI_1 i) (ih (i + 1) (by omega) _ _ _ _ _ _ _ _ _ ⟨A, Z, ?_⟩)) (fun h => gu_fone (by omega) hn N A ?_ (P i) (fun fm' re' le' mo' wi' ft' ns' lo' hi' fo => nm_r (nI_1 i) (ih (i + 1) (by omega) _ _ _ _ _ _ _ _ _ ?_)))
    · rcases R with ⟨q1, q2, q3⟩ | q
      · refine Or.inl ⟨q1, q2, fun j hj rj => ?_⟩
        by_cases e : j = i
        · rw [e, h] at rj
          exact absurd rj (by decide)
        · exact q3 j (by omega) rj
      · exact Or.inr q
    · rcases A i (by omega) with a | a
      · exact absurd a.1 h
      · exact a.1
    · obtain ⟨f1, f2, f3, f4⟩ := fo
      refine ⟨f1, fun a ha => f2 0 a (Z a ha), ?_⟩
      rcases f4 with ⟨⟨s1, s2, s3, s4, s5⟩, sd⟩ | ⟨d1, d2⟩
      · subst s1 s2 s3 s4 s5
        rcases R with ⟨q1, q2, q3⟩ | q
        · refine Or.inl ⟨q1, q2, fun j hj rj => ?_⟩
          by_cases e : j = i
          · rw [e]; exact sd
          · have k := q3 j (by omega) rj
            intro a B
            have g := k a B
            have ef := (f3 j e).1
            have en := (f3 j e).2
            unfold gu_C0 gu_C1 gu_C2 gu_C3 gu_C4 gu_C5 gu_C6 gu_C7 at g ⊢
            rw [ef, en]
            exact g
        · exact Or.inr q
      · rcases R with ⟨q1, q2, q3⟩ | ⟨q1, q2⟩
        · exact Or.inr ⟨d1, by omega⟩
        · exact Or.inr ⟨d1, by omega⟩
theorem gu_an81 {post : SX → Prop} (hn : n ≤ 14) (N : gu_BN lw hg) (P : ∀ j, gu_XP (op j) (fi j) (se j) (th j))
    (H : ∀ (fm : Int32) (re le mo wi ft ns lo hi : Nat → Int32), gu_KN n lw hg op fi se th re le mo ft ns → post (nI n, fe, fp, fc, 1, fm, lw, hg, op, fi, se, th, ce, va, re, le, mo, wi, ft, ns, lo, hi)) :
    ∀ d r, r + d = 200 → ∀ (fm : Int32) (re le mo wi ft ns lo hi : Nat → Int32), gu_AI lw hg re le mo wi → (∀ a : Nat → Int32, (∀ x, x < 4 → a x = gu_nz lw hg x) → gu_IN n re le mo 0 a) →
      ((fm = 0 ∧ ∀ j, j < n → re j = 1 → gu_SD n lw hg op fi se th re le mo ft ns j) ∨ (fm = 1 ∧ gu_mu lw hg le mo wi + r < 200)) → wX_analyse_81 post (d + 1) (nI r) (nI n) fe fp fc fk fm lw hg op fi se th ce va re le mo wi ft ns lo hi := by
  intro d
  induction d with
  | zero =>
    intro r hr fm re le mo wi ft ns lo hi A Z R
    have e : r = 200 := by omega
    subst e
    rcases R with ⟨q1, q2⟩ | ⟨q1, q2⟩
    · exact br_t (nI_le (a := 200) (Nat.le_refl _) (by decide)) (H _ _ _ _ _ _ _ _ _ ⟨Z, q2⟩)
    · omega
  | succ d ih =>
    intro r hr fm re le mo wi ft ns lo hi A Z R
    rcases R with ⟨q1, q2⟩ | ⟨q1, q2⟩
    · exact br_c (fun _ => H _ _ _ _ _ _ _ _ _ ⟨Z, q2⟩) (fun _ => br_t q1 (H _ _ _ _ _ _ _ _ _ ⟨Z, q2⟩))
    · refine br_f (nI_ge (b := 200) (by omega) (by decide)) (br_f (by rw [q1]; decide) ⟨n + 1, ?_⟩)
      refine gu_an102 (M := gu_mu lw hg le mo wi) hn N P (fun fm' re' le' mo' wi' ft' ns' lo' hi' R' => ?_) n 0 (by omega) 0 re le mo wi ft ns lo hi ⟨A, Z, Or.inl ⟨rfl, Nat.le_refl _, fun j hj => absurd hj (Nat.not_lt_zero j)⟩⟩
      obtain ⟨A', Z', R'⟩ := R'
      refine ih (r + 1) (by omega) _ _ _ _ _ _ _ _ _ A' Z' ?_
      rcases R' with ⟨t1, t2, t3⟩ | ⟨t1, t2⟩
      · exact Or.inl ⟨t1, t3⟩
      · exact Or.inr ⟨t1, by omega⟩
theorem gu_an38 {post : SX → Prop}
    (H : ∀ lo' hi' : Nat → Int32, (∀ x, x < 4 → lo' x = gu_nz lw hg x ∧ hi' x = gu_nz lw hg x) → ∀ m, wX_analyse_38 post (nI n) fe fp fc fk fm (m + 1) (nI 4) lw hg op fi se th ce va re le mo wi ft ns lo' hi') :
    ∀ d j, j + d = 4 → ∀ lo hi : Nat → Int32, (∀ x, x < j → lo x = gu_nz lw hg x ∧ hi x = gu_nz lw hg x) → wX_analyse_38 post (nI n) fe fp fc fk fm (d + 1) (nI j) lw hg op fi se th ce va re le mo wi ft ns lo hi := by
  intro d
  induction d with
  | zero =>
    intro j hj lo hi h
    have e : j = 4 := by omega
    subst e
    exact H lo hi h 0
  | succ d ih =>
    intro j hj lo hi h
    have c1 : (nI j).toNatClampNeg = j := nI_clamp (by omega)
    have v1 : vp_in (nI j) 4 := vp_in_nI (by omega) (by omega)
    refine br_f (gu_n4 (by omega)) (gu_near (by omega) ⟨v1, nm_r (e' := upd lo j (gu_nz lw hg j)) (by rw [c1]) ⟨v1, nm_r (e' := upd hi j (gu_nz lw hg j)) (by rw [c1]) (nm_r (nI_1 j) (ih (j + 1) (by omega) _ _ (fun x hx => ?_)))⟩⟩)
    by_cases e : x = j
    · rw [e, gu_us, gu_us]; exact ⟨rfl, rfl⟩
    · rw [gu_un e, gu_un e]; exact h x (by omega)
theorem gu_an10 {post : SX → Prop}
    (H : ∀ re' wi' : Nat → Int32, (∀ t, t < 15 → re' t = 0 ∧ wi' t = 0) → ∀ m, wX_analyse_10 post (nI n) fe fp fc fk fm (m + 1) (nI 15) lw hg op fi se th ce va re' le mo wi' ft ns lo hi) :
    ∀ d j, j + d = 15 → ∀ re wi : Nat → Int32, (∀ t, t < j → re t = 0 ∧ wi t = 0) → wX_analyse_10 post (nI n) fe fp fc fk fm (d + 1) (nI j) lw hg op fi se th ce va re le mo wi ft ns lo hi := by
  intro d
  induction d with
  | zero =>
    intro j hj re wi h
    have e : j = 15 := by omega
    subst e
    exact H re wi h 0
  | succ d ih =>
    intro j hj re wi h
    have c1 : (nI j).toNatClampNeg = j := nI_clamp (by omega)
    have v1 : vp_in (nI j) 15 := vp_in_nI (by omega) (by omega)
    refine br_f (nI_ge (b := 15) (by omega) (by decide)) ⟨v1, nm_r (e' := upd re j 0) (by rw [c1, gu_vb0]) ⟨v1, nm_r (e' := upd wi j 0) (by rw [c1]) (nm_r (nI_1 j) (ih (j + 1) (by omega) _ _ (fun x hx => ?_)))⟩⟩
    by_cases e : x = j
    · rw [e, gu_us, gu_us]; exact ⟨rfl, rfl⟩
    · rw [gu_un e, gu_un e]; exact h x (by omega)
theorem gu_analyse {post : SX → Prop} (hn : n ≤ 14) (N : gu_BN lw hg) (P : ∀ j, gu_XP (op j) (fi j) (se j) (th j))
    (K : fk = 0 ∨ (fk = 1 ∧ gu_KN n lw hg op fi se th re le mo ft ns))
    (H : ∀ (fm : Int32) (re le mo wi ft ns lo hi : Nat → Int32), gu_KN n lw hg op fi se th re le mo ft ns → post (nI n, fe, fp, fc, 1, fm, lw, hg, op, fi, se, th, ce, va, re, le, mo, wi, ft, ns, lo, hi)) : wpX_analyse post (nI n, fe, fp, fc, fk, fm, lw, hg, op, fi, se, th, ce, va, re, le, mo, wi, ft, ns, lo, hi) := by
  unfold wpX_analyse
  rcases K with k | ⟨k, K⟩
  · refine br_t k ⟨16, gu_an10 (fun re wi h0 m => ?_) 15 0 rfl re wi (fun t ht => absurd ht (Nat.not_lt_zero t))⟩
    refine br_t (nI_le (a := 15) (Nat.le_refl _) (by decide)) ⟨5, gu_an38 (fun lo hi hz m => ?_) 4 0 rfl lo hi (fun t ht => absurd ht (Nat.not_lt_zero t))⟩
    have L : gu_LH lw hg lo hi := fun x hx => by
      rw [(hz x hx).1, (hz x hx).2]
      exact gu_nzB N x
    have A : gu_AI lw hg re le mo wi := fun t ht => Or.inl (h0 t (by omega))
    have m0 : gu_mu lw hg le mo wi ≤ 13 * 14 := gu_sub' 14 (fun t ht => by
      unfold gu_ph
      rw [(h0 t (by omega)).2, if_pos (by decide)]
      omega)
    refine br_t (gu_y4 rfl) (gu_arr (t := 0) (by omega) hn A L (fun fm' re' le' mo' wi' ar => ⟨201, ?_⟩))
    obtain ⟨a1, a2, a3, a4⟩ := ar
    refine gu_an81 hn N P H 200 0 rfl fm' re' le' mo' wi' ft ns lo hi a1 (fun a ha => a3 a fun x hx => ?_) ?_
    · rw [ha x hx, (hz x hx).1, (hz x hx).2]
      exact ⟨Int.le_refl _, Int.le_refl _⟩
    · rcases a4 with ⟨s1, s2, s3, s4, s5⟩ | ⟨d1, d2⟩
      · refine Or.inl ⟨s1, fun j hj rj => ?_⟩
        rw [s2, (h0 j (by omega)).1] at rj
        exact absurd rj (by decide)
      · exact Or.inr ⟨d1, by omega⟩
  · subst k
    exact br_f (by decide) (H fm re le mo wi ft ns lo hi K)
end RgAnalyse
end
section
section RgStep
variable {n : Nat} {fe fp fc fk fm : Int32} {lw hg op fi se th ce va re le mo wi ft ns lo hi : Nat → Int32} {ye yp yw : Int32} {kd yf ys yt : Nat → Int32}
theorem gu_vio {v : Int32} (h : gu_IO v) : vp_in v 8 := vp_in_iff.mpr ⟨h.1, by have := h.2; omega⟩
theorem gu_give {K : Int32 → SX → Prop} {p : Nat} {x v : Int32} (hp : p < 14) (vx : vp_in x 4) (g : ft p ≠ 0 → gu_OK lw hg x.toNatClampNeg v)
    (h1 : gu_OK lw hg x.toNatClampNeg v → K 1 (nI n, fe, fp, fc, fk, fm, lw, hg, op, fi, se, th, ce, upd va x.toNatClampNeg v, re, le, mo, wi, ft, ns, lo, hi)) (h0 : ¬ gu_OK lw hg x.toNatClampNeg v → K 0 (nI n, 2, nI p, fc, fk, fm, lw, hg, op, fi, se, th, ce, va, re, le, mo, wi, ft, ns, lo, hi)) : wpX_give K (nI n, fe, fp, fc, fk, fm, lw, hg, op, fi, se, th, ce, va, re, le, mo, wi, ft, ns, lo, hi) (nI p) x v := by
  have ci : (nI p).toNatClampNeg = p := nI_clamp (by omega)
  have vp : vp_in (nI p) 14 := vp_in_nI (by omega) (by omega)
  unfold wpX_give
  refine ⟨vp, ?_⟩
  rw [ci]
  refine br_c (fun z => ⟨vx, gu_lt _ _ rfl rfl (fun h => ?_) (fun h => ⟨vx, gu_le _ _ rfl rfl (fun h2 => ⟨vx, nm_e (h1 ⟨h, h2⟩)⟩) (fun h2 => ?_)⟩)⟩) (fun z => ⟨vx, nm_e (h1 (g z))⟩)
  · unfold wX_give_29 wpX_stop
    exact h0 fun q => by have := q.1; omega
  · unfold wX_give_29 wpX_stop
    exact h0 fun q => by have := q.2; omega
theorem gu_reach {K : Int32 → SX → Prop} {p : Nat} {v : Int32} (hp : p < 14) (g : ns p ≠ 0 → gu_IO v)
    (h1 : gu_IO v → K 1 (nI n, fe, fp, fc, fk, fm, lw, hg, op, fi, se, th, ce, va, re, le, mo, wi, ft, ns, lo, hi)) (h0 : ¬ gu_IO v → K 0 (nI n, 3, nI p, fc, fk, fm, lw, hg, op, fi, se, th, ce, va, re, le, mo, wi, ft, ns, lo, hi)) : wpX_reach K (nI n, fe, fp, fc, fk, fm, lw, hg, op, fi, se, th, ce, va, re, le, mo, wi, ft, ns, lo, hi) (nI p) v := by
  have ci : (nI p).toNatClampNeg = p := nI_clamp (by omega)
  have vp : vp_in (nI p) 14 := vp_in_nI (by omega) (by omega)
  unfold wpX_reach
  refine ⟨vp, ?_⟩
  rw [ci]
  refine br_c (fun z => gu_lt _ _ rfl gu_t0 (fun h => ?_) (fun h => gu_le _ _ rfl gu_t7 (fun h2 => h1 ⟨h, h2⟩) (fun h2 => ?_))) (fun z => h1 (g z))
  · unfold wX_reach_19 wpX_stop
    exact h0 fun q => by have := q.1; omega
  · unfold wX_reach_19 wpX_stop
    exact h0 fun q => by have := q.2; omega
theorem gu_within {K : Int32 → Prop} {v a b : Int32} (h1 : a.toInt ≤ v.toInt ∧ v.toInt ≤ b.toInt → K 1) (h0 : ¬ (a.toInt ≤ v.toInt ∧ v.toInt ≤ b.toInt) → K 0) : wpY_isWithin K (nI n, ye, yp, yw, lw, hg, va, ce, kd, yf, ys, yt) v a b := by
  unfold wpY_isWithin
  exact gu_lt _ _ rfl rfl (fun h => h0 fun q => by omega) (fun h => gu_lt _ _ rfl rfl (fun h2 => h0 fun q => by omega) (fun h2 => h1 ⟨h, h2⟩))
theorem gu_yget {K : SY → Prop} {x v : Int32} (vx : vp_in x 4)
    (h1 : gu_OK lw hg x.toNatClampNeg v → K (nI n, ye, yp, yw, lw, hg, upd va x.toNatClampNeg v, ce, kd, yf, ys, yt)) (h0 : ¬ gu_OK lw hg x.toNatClampNeg v → K (nI n, 2, yp, yw, lw, hg, va, ce, kd, yf, ys, yt)) : wpY_get K (nI n, ye, yp, yw, lw, hg, va, ce, kd, yf, ys, yt) x v := by
  unfold wpY_get
  exact ⟨vx, vx, gu_within (fun h => br_f (by decide) ⟨vx, nm_e (h1 h)⟩) (fun h => br_t rfl (h0 h))⟩
theorem gu_xw0 {post : Int32 → SX → Prop} {p : Nat} (hp : p < 14) (o : op p = 0) (vx : vp_in (fi p) 4) (vy : vp_in (se p) 4) (g : ft p ≠ 0 → gu_OK lw hg (fi p).toNatClampNeg (th p))
    (h1 : gu_OK lw hg (fi p).toNatClampNeg (th p) → post (nI p + 1) (nI n, fe, fp, fc, fk, fm, lw, hg, op, fi, se, th, ce, upd va (fi p).toNatClampNeg (th p), re, le, mo, wi, ft, ns, lo, hi)) (h0 : ¬ gu_OK lw hg (fi p).toNatClampNeg (th p) → post (-1) (nI n, 2, nI p, fc, fk, fm, lw, hg, op, fi, se, th, ce, va, re, le, mo, wi, ft, ns, lo, hi)) : wpX_work post (nI n, fe, fp, fc, fk, fm, lw, hg, op, fi, se, th, ce, va, re, le, mo, wi, ft, ns, lo, hi) (nI p) := by
  have ci : (nI p).toNatClampNeg = p := nI_clamp (by omega)
  have vp : vp_in (nI p) 14 := vp_in_nI (by omega) (by omega)
  unfold wpX_work
  refine ⟨vp, nm_r (e' := op p) (by rw [ci]) ⟨vp, nm_r (e' := fi p) (by rw [ci]) ⟨vp, nm_r (e' := se p) (by rw [ci]) ⟨vp, nm_r (e' := th p) (by rw [ci]) (br_f (by rw [o]; decide) (br_t (by rw [o]; decide) (br_t o (gu_give hp vx g (fun ok => ?_) (fun ok => ?_)))))⟩⟩⟩⟩
  · exact br_f (by decide) (h1 ok)
  · exact br_t rfl (h0 ok)
theorem gu_xw1 {post : Int32 → SX → Prop} {p : Nat} (hp : p < 14) (o : op p = 1) (vx : vp_in (fi p) 4) (vy : vp_in (se p) 4) (g : ft p ≠ 0 → gu_OK lw hg (fi p).toNatClampNeg (va (se p).toNatClampNeg + th p))
    (h1 : gu_OK lw hg (fi p).toNatClampNeg (va (se p).toNatClampNeg + th p) → post (nI p + 1) (nI n, fe, fp, fc, fk, fm, lw, hg, op, fi, se, th, ce, upd va (fi p).toNatClampNeg (va (se p).toNatClampNeg + th p), re, le, mo, wi, ft, ns, lo, hi)) (h0 : ¬ gu_OK lw hg (fi p).toNatClampNeg (va (se p).toNatClampNeg + th p) → post (-1) (nI n, 2, nI p, fc, fk, fm, lw, hg, op, fi, se, th, ce, va, re, le, mo, wi, ft, ns, lo, hi)) : wpX_work post (nI n, fe, fp, fc, fk, fm, lw, hg, op, fi, se, th, ce, va, re, le, mo, wi, ft, ns, lo, hi) (nI p) := by
  have ci : (nI p).toNatClampNeg = p := nI_clamp (by omega)
  have vp : vp_in (nI p) 14 := vp_in_nI (by omega) (by omega)
  unfold wpX_work
  refine ⟨vp, nm_r (e' := op p) (by rw [ci]) ⟨vp, nm_r (e' := fi p) (by rw [ci]) ⟨vp, nm_r (e' := se p) (by rw [ci]) ⟨vp, nm_r (e' := th p) (by rw [ci]) (br_f (by rw [o]; decide) (br_t (by rw [o]; decide) (br_f (by rw [o]; decide) (br_t o (⟨vy, gu_give hp vx g (fun ok => ?_) (fun ok => ?_)⟩)))))⟩⟩⟩⟩
  · exact br_f (by decide) (h1 ok)
  · exact br_t rfl (h0 ok)
theorem gu_xw2 {post : Int32 → SX → Prop} {p : Nat} (hp : p < 14) (o : op p = 2) (vx : vp_in (fi p) 4) (vy : vp_in (se p) 4) (vz : vp_in (th p) 4) (g : ft p ≠ 0 → gu_OK lw hg (fi p).toNatClampNeg (va (se p).toNatClampNeg + va (th p).toNatClampNeg))
    (h1 : gu_OK lw hg (fi p).toNatClampNeg (va (se p).toNatClampNeg + va (th p).toNatClampNeg) → post (nI p + 1) (nI n, fe, fp, fc, fk, fm, lw, hg, op, fi, se, th, ce, upd va (fi p).toNatClampNeg (va (se p).toNatClampNeg + va (th p).toNatClampNeg), re, le, mo, wi, ft, ns, lo, hi)) (h0 : ¬ gu_OK lw hg (fi p).toNatClampNeg (va (se p).toNatClampNeg + va (th p).toNatClampNeg) → post (-1) (nI n, 2, nI p, fc, fk, fm, lw, hg, op, fi, se, th, ce, va, re, le, mo, wi, ft, ns, lo, hi)) : wpX_work post (nI n, fe, fp, fc, fk, fm, lw, hg, op, fi, se, th, ce, va, re, le, mo, wi, ft, ns, lo, hi) (nI p) := by
  have ci : (nI p).toNatClampNeg = p := nI_clamp (by omega)
  have vp : vp_in (nI p) 14 := vp_in_nI (by omega) (by omega)
  unfold wpX_work
  refine ⟨vp, nm_r (e' := op p) (by rw [ci]) ⟨vp, nm_r (e' := fi p) (by rw [ci]) ⟨vp, nm_r (e' := se p) (by rw [ci]) ⟨vp, nm_r (e' := th p) (by rw [ci]) (br_f (by rw [o]; decide) (br_t (by rw [o]; decide) (br_f (by rw [o]; decide) (br_f (by rw [o]; decide) (br_t o (⟨vy, vz, gu_give hp vx g (fun ok => ?_) (fun ok => ?_)⟩))))))⟩⟩⟩⟩
  · exact br_f (by decide) (h1 ok)
  · exact br_t rfl (h0 ok)
theorem gu_xw3 {post : Int32 → SX → Prop} {p : Nat} (hp : p < 14) (o : op p = 3) (vx : vp_in (fi p) 4) (vy : vp_in (se p) 4) (g : ft p ≠ 0 → gu_OK lw hg (fi p).toNatClampNeg (va (se p).toNatClampNeg &&& th p))
    (h1 : gu_OK lw hg (fi p).toNatClampNeg (va (se p).toNatClampNeg &&& th p) → post (nI p + 1) (nI n, fe, fp, fc, fk, fm, lw, hg, op, fi, se, th, ce, upd va (fi p).toNatClampNeg (va (se p).toNatClampNeg &&& th p), re, le, mo, wi, ft, ns, lo, hi)) (h0 : ¬ gu_OK lw hg (fi p).toNatClampNeg (va (se p).toNatClampNeg &&& th p) → post (-1) (nI n, 2, nI p, fc, fk, fm, lw, hg, op, fi, se, th, ce, va, re, le, mo, wi, ft, ns, lo, hi)) : wpX_work post (nI n, fe, fp, fc, fk, fm, lw, hg, op, fi, se, th, ce, va, re, le, mo, wi, ft, ns, lo, hi) (nI p) := by
  have ci : (nI p).toNatClampNeg = p := nI_clamp (by omega)
  have vp : vp_in (nI p) 14 := vp_in_nI (by omega) (by omega)
  unfold wpX_work
  refine ⟨vp, nm_r (e' := op p) (by rw [ci]) ⟨vp, nm_r (e' := fi p) (by rw [ci]) ⟨vp, nm_r (e' := se p) (by rw [ci]) ⟨vp, nm_r (e' := th p) (by rw [ci]) (br_f (by rw [o]; decide) (br_t (by rw [o]; decide) (br_f (by rw [o]; decide) (br_f (by rw [o]; decide) (br_f (by rw [o]; decide) (br_t o (⟨vy, gu_give hp vx g (fun ok => ?_) (fun ok => ?_)⟩)))))))⟩⟩⟩⟩
  · exact br_f (by decide) (h1 ok)
  · exact br_t rfl (h0 ok)
theorem gu_yw0 {post : Int32 → SY → Prop} {p : Nat} (hp : p < 14) (o : kd p = 0) (vx : vp_in (fi p) 4) (vy : vp_in (se p) 4) (ef : yf p = fi p) (es : ys p = th p)
    (h1 : gu_OK lw hg (fi p).toNatClampNeg (th p) → post (nI p + 1) (nI n, ye, yp, yw, lw, hg, upd va (fi p).toNatClampNeg (th p), ce, kd, yf, ys, yt)) (h0 : ¬ gu_OK lw hg (fi p).toNatClampNeg (th p) → post (nI p + 1) (nI n, 2, yp, yw, lw, hg, va, ce, kd, yf, ys, yt)) : wpY_step post (nI n, ye, yp, yw, lw, hg, va, ce, kd, yf, ys, yt) (nI p) := by
  have ci : (nI p).toNatClampNeg = p := nI_clamp (by omega)
  have vp : vp_in (nI p) 14 := vp_in_nI (by omega) (by omega)
  unfold wpY_step
  refine ⟨vp, br_f (by rw [ci, o]; decide) ?_⟩
  unfold wpY_compute
  refine ⟨vp, nm_r (e' := fi p) (by rw [ci, ef]) ⟨vp, nm_r (e' := th p) (by rw [ci, es]) ⟨vp, br_t (by rw [ci, o]) (gu_yget vx h1 h0)⟩⟩⟩
theorem gu_yw1 {post : Int32 → SY → Prop} {p : Nat} (hp : p < 14) (o : kd p = 1) (vx : vp_in (fi p) 4) (vy : vp_in (se p) 4) (ef : yf p = fi p) (es : ys p = se p) (et : yt p = th p)
    (h1 : gu_OK lw hg (fi p).toNatClampNeg (va (se p).toNatClampNeg + th p) → post (nI p + 1) (nI n, ye, yp, yw, lw, hg, upd va (fi p).toNatClampNeg (va (se p).toNatClampNeg + th p), ce, kd, yf, ys, yt)) (h0 : ¬ gu_OK lw hg (fi p).toNatClampNeg (va (se p).toNatClampNeg + th p) → post (nI p + 1) (nI n, 2, yp, yw, lw, hg, va, ce, kd, yf, ys, yt)) : wpY_step post (nI n, ye, yp, yw, lw, hg, va, ce, kd, yf, ys, yt) (nI p) := by
  have ci : (nI p).toNatClampNeg = p := nI_clamp (by omega)
  have vp : vp_in (nI p) 14 := vp_in_nI (by omega) (by omega)
  unfold wpY_step
  refine ⟨vp, br_f (by rw [ci, o]; decide) ?_⟩
  unfold wpY_compute
  refine ⟨vp, nm_r (e' := fi p) (by rw [ci, ef]) ⟨vp, nm_r (e' := se p) (by rw [ci, es]) ⟨vp, br_f (by rw [ci, o]; decide) ⟨vp, br_t (by rw [ci, o]) ⟨vy, vp, by rw [ci, et]; exact gu_yget vx h1 h0⟩⟩⟩⟩⟩
theorem gu_yw2 {post : Int32 → SY → Prop} {p : Nat} (hp : p < 14) (o : kd p = 2) (vx : vp_in (fi p) 4) (vy : vp_in (se p) 4) (vz : vp_in (th p) 4) (ef : yf p = fi p) (es : ys p = se p) (et : yt p = th p)
    (h1 : gu_OK lw hg (fi p).toNatClampNeg (va (se p).toNatClampNeg + va (th p).toNatClampNeg) → post (nI p + 1) (nI n, ye, yp, yw, lw, hg, upd va (fi p).toNatClampNeg (va (se p).toNatClampNeg + va (th p).toNatClampNeg), ce, kd, yf, ys, yt)) (h0 : ¬ gu_OK lw hg (fi p).toNatClampNeg (va (se p).toNatClampNeg + va (th p).toNatClampNeg) → post (nI p + 1) (nI n, 2, yp, yw, lw, hg, va, ce, kd, yf, ys, yt)) : wpY_step post (nI n, ye, yp, yw, lw, hg, va, ce, kd, yf, ys, yt) (nI p) := by
  have ci : (nI p).toNatClampNeg = p := nI_clamp (by omega)
  have vp : vp_in (nI p) 14 := vp_in_nI (by omega) (by omega)
  unfold wpY_step
  refine ⟨vp, br_f (by rw [ci, o]; decide) ?_⟩
  unfold wpY_compute
  refine ⟨vp, nm_r (e' := fi p) (by rw [ci, ef]) ⟨vp, nm_r (e' := se p) (by rw [ci, es]) ⟨vp, br_f (by rw [ci, o]; decide) ⟨vp, br_f (by rw [ci, o]; decide) ⟨vp, br_t (by rw [ci, o]) ⟨vy, vp, by rw [ci, et]; exact vz, by rw [ci, et]; exact gu_yget vx h1 h0⟩⟩⟩⟩⟩⟩
theorem gu_yw3 {post : Int32 → SY → Prop} {p : Nat} (hp : p < 14) (o : kd p = 3) (vx : vp_in (fi p) 4) (vy : vp_in (se p) 4) (ef : yf p = fi p) (es : ys p = se p) (et : yt p = th p)
    (h1 : gu_OK lw hg (fi p).toNatClampNeg (va (se p).toNatClampNeg &&& th p) → post (nI p + 1) (nI n, ye, yp, yw, lw, hg, upd va (fi p).toNatClampNeg (va (se p).toNatClampNeg &&& th p), ce, kd, yf, ys, yt)) (h0 : ¬ gu_OK lw hg (fi p).toNatClampNeg (va (se p).toNatClampNeg &&& th p) → post (nI p + 1) (nI n, 2, yp, yw, lw, hg, va, ce, kd, yf, ys, yt)) : wpY_step post (nI n, ye, yp, yw, lw, hg, va, ce, kd, yf, ys, yt) (nI p) := by
  have ci : (nI p).toNatClampNeg = p := nI_clamp (by omega)
  have vp : vp_in (nI p) 14 := vp_in_nI (by omega) (by omega)
  unfold wpY_step
  refine ⟨vp, br_f (by rw [ci, o]; decide) ?_⟩
  unfold wpY_compute
  refine ⟨vp, nm_r (e' := fi p) (by rw [ci, ef]) ⟨vp, nm_r (e' := se p) (by rw [ci, es]) ⟨vp, br_f (by rw [ci, o]; decide) ⟨vp, br_f (by rw [ci, o]; decide) ⟨vp, br_f (by rw [ci, o]; decide) ⟨vy, vp, by rw [ci, et]; exact gu_yget vx h1 h0⟩⟩⟩⟩⟩⟩
theorem gu_xw4 {post : Int32 → SX → Prop} {p : Nat} (hp : p < 14) (o : op p = 4) (vx : vp_in (fi p) 4) (vy : vp_in (se p) 4) (gN : ns p ≠ 0 → gu_IO (va (se p).toNatClampNeg + th p)) (gF : gu_IO (va (se p).toNatClampNeg + th p) → ft p ≠ 0 → gu_OK lw hg (fi p).toNatClampNeg (ce (va (se p).toNatClampNeg + th p).toNatClampNeg))
    (h1 : gu_IO (va (se p).toNatClampNeg + th p) → gu_OK lw hg (fi p).toNatClampNeg (ce (va (se p).toNatClampNeg + th p).toNatClampNeg) → post (nI p + 1) (nI n, fe, fp, fc, fk, fm, lw, hg, op, fi, se, th, ce, upd va (fi p).toNatClampNeg (ce (va (se p).toNatClampNeg + th p).toNatClampNeg), re, le, mo, wi, ft, ns, lo, hi)) (h2 : gu_IO (va (se p).toNatClampNeg + th p) → ¬ gu_OK lw hg (fi p).toNatClampNeg (ce (va (se p).toNatClampNeg + th p).toNatClampNeg) → post (-1) (nI n, 2, nI p, fc, fk, fm, lw, hg, op, fi, se, th, ce, va, re, le, mo, wi, ft, ns, lo, hi)) (h0 : ¬ gu_IO (va (se p).toNatClampNeg + th p) → post (-1) (nI n, 3, nI p, fc, fk, fm, lw, hg, op, fi, se, th, ce, va, re, le, mo, wi, ft, ns, lo, hi)) : wpX_work post (nI n, fe, fp, fc, fk, fm, lw, hg, op, fi, se, th, ce, va, re, le, mo, wi, ft, ns, lo, hi) (nI p) := by
  have ci : (nI p).toNatClampNeg = p := nI_clamp (by omega)
  have vp : vp_in (nI p) 14 := vp_in_nI (by omega) (by omega)
  unfold wpX_work
  refine ⟨vp, nm_r (e' := op p) (by rw [ci]) ⟨vp, nm_r (e' := fi p) (by rw [ci]) ⟨vp, nm_r (e' := se p) (by rw [ci]) ⟨vp, nm_r (e' := th p) (by rw [ci]) (br_f (by rw [o]; decide) (br_t (by rw [o]; decide) (br_f (by rw [o]; decide) (br_f (by rw [o]; decide) (br_f (by rw [o]; decide) (br_f (by rw [o]; decide) ⟨vy, nm_e (gu_reach hp gN (fun io => ?_) (fun io => ?_))⟩))))))⟩⟩⟩⟩
  · have e7 : (va (se p).toNatClampNeg + th p) &&& 7 = va (se p).toNatClampNeg + th p := gu_and7 io.1 io.2
    refine br_f (by decide) (br_t o ?_)
    rw [e7]
    refine ⟨gu_vio io, gu_give hp vx (gF io) (fun ok => ?_) (fun ok => ?_)⟩
    · exact br_f (by decide) (h1 io ok)
    · exact br_t rfl (h2 io ok)
  · exact br_t rfl (br_t rfl (br_t rfl (h0 io)))
theorem gu_xw5 {post : Int32 → SX → Prop} {p : Nat} (hp : p < 14) (o : op p = 5) (vx : vp_in (fi p) 4) (vy : vp_in (se p) 4) (gN : ns p ≠ 0 → gu_IO (va (se p).toNatClampNeg + th p))
    (h1 : gu_IO (va (se p).toNatClampNeg + th p) → post (nI p + 1) (nI n, fe, fp, fc, fk, fm, lw, hg, op, fi, se, th, upd ce (va (se p).toNatClampNeg + th p).toNatClampNeg (va (fi p).toNatClampNeg), va, re, le, mo, wi, ft, ns, lo, hi)) (h0 : ¬ gu_IO (va (se p).toNatClampNeg + th p) → post (-1) (nI n, 3, nI p, fc, fk, fm, lw, hg, op, fi, se, th, ce, va, re, le, mo, wi, ft, ns, lo, hi)) : wpX_work post (nI n, fe, fp, fc, fk, fm, lw, hg, op, fi, se, th, ce, va, re, le, mo, wi, ft, ns, lo, hi) (nI p) := by
  have ci : (nI p).toNatClampNeg = p := nI_clamp (by omega)
  have vp : vp_in (nI p) 14 := vp_in_nI (by omega) (by omega)
  unfold wpX_work
  refine ⟨vp, nm_r (e' := op p) (by rw [ci]) ⟨vp, nm_r (e' := fi p) (by rw [ci]) ⟨vp, nm_r (e' := se p) (by rw [ci]) ⟨vp, nm_r (e' := th p) (by rw [ci]) (br_f (by rw [o]; decide) (br_t (by rw [o]; decide) (br_f (by rw [o]; decide) (br_f (by rw [o]; decide) (br_f (by rw [o]; decide) (br_f (by rw [o]; decide) ⟨vy, nm_e (gu_reach hp gN (fun io => ?_) (fun io => ?_))⟩))))))⟩⟩⟩⟩
  · have e7 : (va (se p).toNatClampNeg + th p) &&& 7 = va (se p).toNatClampNeg + th p := gu_and7 io.1 io.2
    refine br_f (by decide) (br_f (by rw [o]; decide) ?_)
    unfold wX_work_225
    rw [e7]
    exact br_f (by decide) ⟨vx, gu_vio io, nm_e (br_f (by decide) (h1 io))⟩
  · exact br_t rfl (br_t rfl (br_t rfl (h0 io)))
theorem gu_xw6 {post : Int32 → SX → Prop} {p : Nat} (hp : p < 14) (o : op p = 6) (vx : vp_in (fi p) 4) (vy : vp_in (se p) 4)
    (h1 : va (se p).toNatClampNeg ≤ va (fi p).toNatClampNeg → post (nI p + 1) (nI n, fe, fp, fc, fk, fm, lw, hg, op, fi, se, th, ce, va, re, le, mo, wi, ft, ns, lo, hi)) (h0 : ¬ va (se p).toNatClampNeg ≤ va (fi p).toNatClampNeg → post (th p) (nI n, fe, fp, fc, fk, fm, lw, hg, op, fi, se, th, ce, va, re, le, mo, wi, ft, ns, lo, hi)) : wpX_work post (nI n, fe, fp, fc, fk, fm, lw, hg, op, fi, se, th, ce, va, re, le, mo, wi, ft, ns, lo, hi) (nI p) := by
  have ci : (nI p).toNatClampNeg = p := nI_clamp (by omega)
  have vp : vp_in (nI p) 14 := vp_in_nI (by omega) (by omega)
  unfold wpX_work
  exact ⟨vp, nm_r (e' := op p) (by rw [ci]) ⟨vp, nm_r (e' := fi p) (by rw [ci]) ⟨vp, nm_r (e' := se p) (by rw [ci]) ⟨vp, nm_r (e' := th p) (by rw [ci]) (br_t o ⟨vx, vy, br_c h1 h0⟩)⟩⟩⟩⟩
theorem gu_xw7 {post : Int32 → SX → Prop} {p : Nat} (hp : p < 14) (o : op p = 7) (h0 : post (th p) (nI n, fe, fp, fc, fk, fm, lw, hg, op, fi, se, th, ce, va, re, le, mo, wi, ft, ns, lo, hi)) : wpX_work post (nI n, fe, fp, fc, fk, fm, lw, hg, op, fi, se, th, ce, va, re, le, mo, wi, ft, ns, lo, hi) (nI p) := by
  have ci : (nI p).toNatClampNeg = p := nI_clamp (by omega)
  have vp : vp_in (nI p) 14 := vp_in_nI (by omega) (by omega)
  unfold wpX_work
  exact ⟨vp, nm_r (e' := op p) (by rw [ci]) ⟨vp, nm_r (e' := fi p) (by rw [ci]) ⟨vp, nm_r (e' := se p) (by rw [ci]) ⟨vp, nm_r (e' := th p) (by rw [ci]) (br_f (by rw [o]; decide) (br_f (by rw [o]; decide) h0))⟩⟩⟩⟩
theorem gu_yw4 {post : Int32 → SY → Prop} {p : Nat} (hp : p < 14) (o : kd p = 4) (vx : vp_in (fi p) 4) (vy : vp_in (se p) 4) (ef : yf p = fi p) (es : ys p = se p) (et : yt p = th p)
    (h1 : gu_IO (va (se p).toNatClampNeg + th p) → gu_OK lw hg (fi p).toNatClampNeg (ce (va (se p).toNatClampNeg + th p).toNatClampNeg) → post (nI p + 1) (nI n, ye, yp, yw, lw, hg, upd va (fi p).toNatClampNeg (ce (va (se p).toNatClampNeg + th p).toNatClampNeg), ce, kd, yf, ys, yt)) (h2 : gu_IO (va (se p).toNatClampNeg + th p) → ¬ gu_OK lw hg (fi p).toNatClampNeg (ce (va (se p).toNatClampNeg + th p).toNatClampNeg) → post (nI p + 1) (nI n, 2, yp, yw, lw, hg, va, ce, kd, yf, ys, yt)) (h0 : ¬ gu_IO (va (se p).toNatClampNeg + th p) → post (nI p + 1) (nI n, 3, yp, yw, lw, hg, va, ce, kd, yf, ys, yt)) : wpY_step post (nI n, ye, yp, yw, lw, hg, va, ce, kd, yf, ys, yt) (nI p) := by
  have ci : (nI p).toNatClampNeg = p := nI_clamp (by omega)
  have vp : vp_in (nI p) 14 := vp_in_nI (by omega) (by omega)
  unfold wpY_step
  refine ⟨vp, br_t (by rw [ci, o]; decide) ⟨vp, br_f (by rw [ci, o]; decide) ?_⟩⟩
  unfold wpY_access
  refine ⟨vp, nm_r (e' := fi p) (by rw [ci, ef]) ⟨vp, by rw [ci, es]; exact vy, vp, nm_r (e' := va (se p).toNatClampNeg + th p) (by rw [ci, es, et]) (gu_within (fun io => br_f (by decide) ⟨vp, br_t (by rw [ci, o]) ⟨gu_vio ⟨?_, ?_⟩, gu_yget vx (h1 ?_) (h2 ?_)⟩⟩) (fun io => br_t rfl (h0 fun q => io ?_)))⟩⟩
  · exact io.1
  · exact io.2
  · exact io
  · exact io
  · exact q
theorem gu_yw5 {post : Int32 → SY → Prop} {p : Nat} (hp : p < 14) (o : kd p = 5) (vx : vp_in (fi p) 4) (vy : vp_in (se p) 4) (ef : yf p = fi p) (es : ys p = se p) (et : yt p = th p)
    (h1 : gu_IO (va (se p).toNatClampNeg + th p) → post (nI p + 1) (nI n, ye, yp, yw, lw, hg, va, upd ce (va (se p).toNatClampNeg + th p).toNatClampNeg (va (fi p).toNatClampNeg), kd, yf, ys, yt)) (h0 : ¬ gu_IO (va (se p).toNatClampNeg + th p) → post (nI p + 1) (nI n, 3, yp, yw, lw, hg, va, ce, kd, yf, ys, yt)) : wpY_step post (nI n, ye, yp, yw, lw, hg, va, ce, kd, yf, ys, yt) (nI p) := by
  have ci : (nI p).toNatClampNeg = p := nI_clamp (by omega)
  have vp : vp_in (nI p) 14 := vp_in_nI (by omega) (by omega)
  unfold wpY_step
  refine ⟨vp, br_t (by rw [ci, o]; decide) ⟨vp, br_f (by rw [ci, o]; decide) ?_⟩⟩
  unfold wpY_access
  refine ⟨vp, nm_r (e' := fi p) (by rw [ci, ef]) ⟨vp, by rw [ci, es]; exact vy, vp, nm_r (e' := va (se p).toNatClampNeg + th p) (by rw [ci, es, et]) (gu_within (fun io => br_f (by decide) ⟨vp, br_f (by rw [ci, o]; decide) ⟨vx, gu_vio ⟨?_, ?_⟩, nm_e (h1 ?_)⟩⟩) (fun io => br_t rfl (h0 fun q => io ?_)))⟩⟩
  · exact io.1
  · exact io.2
  · exact io
  · exact q
theorem gu_yw6 {post : Int32 → SY → Prop} {p : Nat} (hp : p < 14) (o : kd p = 6) (vx : vp_in (fi p) 4) (vy : vp_in (se p) 4) (ef : yf p = fi p) (es : ys p = se p) (et : yt p = th p)
    (h1 : va (se p).toNatClampNeg ≤ va (fi p).toNatClampNeg → post (nI p + 1) (nI n, ye, yp, yw, lw, hg, va, ce, kd, yf, ys, yt)) (h0 : ¬ va (se p).toNatClampNeg ≤ va (fi p).toNatClampNeg → post (th p) (nI n, ye, yp, yw, lw, hg, va, ce, kd, yf, ys, yt)) : wpY_step post (nI n, ye, yp, yw, lw, hg, va, ce, kd, yf, ys, yt) (nI p) := by
  have ci : (nI p).toNatClampNeg = p := nI_clamp (by omega)
  have vp : vp_in (nI p) 14 := vp_in_nI (by omega) (by omega)
  unfold wpY_step
  refine ⟨vp, br_t (by rw [ci, o]; decide) ⟨vp, br_t (by rw [ci, o]; decide) ⟨vp, br_f (by rw [ci, o]; decide) ⟨vp, by rw [ci, ef]; exact vx, vp, by rw [ci, es]; exact vy, ?_⟩⟩⟩⟩
  rw [ci, ef, es]
  refine br_c h1 (fun h => ⟨vp, ?_⟩)
  rw [et]
  exact h0 h
theorem gu_yw7 {post : Int32 → SY → Prop} {p : Nat} (hp : p < 14) (o : kd p = 7) (ef : yf p = th p) (h0 : post (th p) (nI n, ye, yp, yw, lw, hg, va, ce, kd, yf, ys, yt)) : wpY_step post (nI n, ye, yp, yw, lw, hg, va, ce, kd, yf, ys, yt) (nI p) := by
  have ci : (nI p).toNatClampNeg = p := nI_clamp (by omega)
  have vp : vp_in (nI p) 14 := vp_in_nI (by omega) (by omega)
  unfold wpY_step
  refine ⟨vp, br_t (by rw [ci, o]; decide) ⟨vp, br_t (by rw [ci, o]; decide) ⟨vp, br_t (by rw [ci, o]) ⟨vp, ?_⟩⟩⟩⟩
  rw [ci, ef]
  exact h0
end RgStep
end
section
section RgBoth
/-- an instruction as both hold it -/
def gu_PW (o f s t k yf ys yt : Int32) : Prop := vp_in f 4 ∧ vp_in s 4 ∧
  ((o = 0 ∧ k = 0 ∧ gu_RR t ∧ yf = f ∧ ys = t) ∨ (o = 1 ∧ k = 1 ∧ gu_RR t ∧ yf = f ∧ ys = s ∧ yt = t) ∨ (o = 2 ∧ k = 2 ∧ vp_in t 4 ∧ yf = f ∧ ys = s ∧ yt = t) ∨
   (o = 3 ∧ k = 3 ∧ (0 ≤ t.toInt ∧ t.toInt ≤ 63) ∧ yf = f ∧ ys = s ∧ yt = t) ∨ (o = 4 ∧ k = 4 ∧ gu_R8 t ∧ yf = f ∧ ys = s ∧ yt = t) ∨ (o = 5 ∧ k = 5 ∧ gu_R8 t ∧ yf = f ∧ ys = s ∧ yt = t) ∨
   (o = 6 ∧ k = 6 ∧ vp_in t 15 ∧ yf = f ∧ ys = s ∧ yt = t) ∨ (o = 7 ∧ k = 7 ∧ vp_in t 15 ∧ yf = t))
theorem gu_pwx {o f s t k yf ys yt : Int32} (h : gu_PW o f s t k yf ys yt) : gu_XP o f s t := by
  obtain ⟨vx, vy, h⟩ := h
  refine ⟨vx, vy, ?_⟩
  rcases h with h | h | h | h | h | h | h | h
  · exact Or.inl ⟨h.1, h.2.2.1⟩
  · exact Or.inr (Or.inl ⟨h.1, h.2.2.1⟩)
  · exact Or.inr (Or.inr (Or.inl ⟨h.1, h.2.2.1⟩))
  · exact Or.inr (Or.inr (Or.inr (Or.inl ⟨h.1, h.2.2.1⟩)))
  · exact Or.inr (Or.inr (Or.inr (Or.inr (Or.inl ⟨h.1, h.2.2.1⟩))))
  · exact Or.inr (Or.inr (Or.inr (Or.inr (Or.inr (Or.inl ⟨h.1, h.2.2.1⟩)))))
  · exact Or.inr (Or.inr (Or.inr (Or.inr (Or.inr (Or.inr (Or.inl ⟨h.1, h.2.2.1⟩))))))
  · exact Or.inr (Or.inr (Or.inr (Or.inr (Or.inr (Or.inr (Or.inr ⟨h.1, h.2.2.1⟩))))))
variable {n : Nat} {fe fp fc fk fm : Int32} {lw hg op fi se th ce va re le mo wi ft ns lo hi : Nat → Int32} {ye yp yw : Int32} {kd yf ys yt : Nat → Int32}
theorem gu_okU {x : Nat} {v : Int32} (V : ∀ z, z < 4 → gu_OK lw hg z (va z)) (h : gu_OK lw hg x v) : ∀ z, z < 4 → gu_OK lw hg z (upd va x v z) := by
  intro z hz
  by_cases e : z = x
  · rw [e, gu_us]; exact h
  · rw [gu_un e]; exact V z hz
theorem gu_ceU {x m : Nat} {v : Int32} (N : gu_BN lw hg) (C : ∀ j, gu_RR (ce j)) (h : gu_OK lw hg x v) : ∀ j, gu_RR (upd ce m v j) := by
  intro j
  by_cases e : j = m
  · rw [e, gu_us]
    have k := N x
    obtain ⟨h1, h2⟩ := h
    exact ⟨by omega, by omega⟩
  · rw [gu_un e]; exact C j
theorem gu_nIc {x : Int32} {m : Nat} (h : vp_in x m) : nI x.toNatClampNeg = x := by
  have h0 : ¬ x < 0 := fun z => h (Or.inl z)
  obtain ⟨j, hj, rfl⟩ := nI_of h0
  rw [nI_clamp hj]
/-- one instruction, worked off by both -/
theorem gu_step {p : Nat} (hp : p < n) (hn : n ≤ 14) (N : gu_BN lw hg) (W : gu_PW (op p) (fi p) (se p) (th p) (kd p) (yf p) (ys p) (yt p)) (S : gu_SD n lw hg op fi se th re le mo ft ns p)
    (B : gu_BT (fun x => le (4 * p + x)) (fun x => mo (4 * p + x)) va) (V : ∀ z, z < 4 → gu_OK lw hg z (va z)) (C : ∀ j, gu_RR (ce j)) :
    (∃ (q : Nat) (va' ce' : Nat → Int32), q ≤ 14 ∧ (∀ z, z < 4 → gu_OK lw hg z (va' z)) ∧ gu_IN n re le mo q va' ∧ (∀ j, gu_RR (ce' j)) ∧
      (∀ post : Int32 → SX → Prop, post (nI q) (nI n, fe, fp, fc, fk, fm, lw, hg, op, fi, se, th, ce', va', re, le, mo, wi, ft, ns, lo, hi) → wpX_work post (nI n, fe, fp, fc, fk, fm, lw, hg, op, fi, se, th, ce, va, re, le, mo, wi, ft, ns, lo, hi) (nI p)) ∧ (∀ post : Int32 → SY → Prop, post (nI q) (nI n, ye, yp, yw, lw, hg, va', ce', kd, yf, ys, yt) → wpY_step post (nI n, ye, yp, yw, lw, hg, va, ce, kd, yf, ys, yt) (nI p))) ∨
    (∃ e q : Int32, ¬ e = 0 ∧ (∀ post : Int32 → SX → Prop, post (-1) (nI n, e, nI p, fc, fk, fm, lw, hg, op, fi, se, th, ce, va, re, le, mo, wi, ft, ns, lo, hi) → wpX_work post (nI n, fe, fp, fc, fk, fm, lw, hg, op, fi, se, th, ce, va, re, le, mo, wi, ft, ns, lo, hi) (nI p)) ∧ (∀ post : Int32 → SY → Prop, post q (nI n, e, yp, yw, lw, hg, va, ce, kd, yf, ys, yt) → wpY_step post (nI n, ye, yp, yw, lw, hg, va, ce, kd, yf, ys, yt) (nI p))) := by
  have hp14 : p < 14 := by omega
  obtain ⟨vx, vy, W⟩ := W
  have hx := gu_cl vx
  have hy := gu_cl vy
  obtain ⟨S0, S1, S2, S3, S4, S5, S6, S7⟩ := S va B
  rcases W with ⟨o, ok, k1, ef, es⟩ | ⟨o, ok, k1, ef, es, et⟩ | ⟨o, ok, k1, ef, es, et⟩ | ⟨o, ok, k1, ef, es, et⟩ | ⟨o, ok, k1, ef, es, et⟩ | ⟨o, ok, k1, ef, es, et⟩ | ⟨o, ok, k1, ef, es, et⟩ | ⟨o, ok, k1, ef⟩
  · obtain ⟨g1, g2⟩ : gu_C0 n lw hg fi se th re le mo ft ns p va := S0 o
    by_cases h : gu_OK lw hg (fi p).toNatClampNeg (th p)
    · exact Or.inl ⟨p + 1, upd va (fi p).toNatClampNeg (th p), ce, by omega, gu_okU V h, g2 h, C, fun post q => gu_xw0 hp14 o vx vy g1 (fun _ => by rw [nI_1 p]; exact q) (fun z => absurd h z), fun post q => gu_yw0 hp14 ok vx vy ef es (fun _ => by rw [nI_1 p]; exact q) (fun z => absurd h z)⟩
    · exact Or.inr ⟨2, nI p + 1, by decide, fun post q => gu_xw0 hp14 o vx vy g1 (fun z => absurd z h) (fun _ => q), fun post q => gu_yw0 hp14 ok vx vy ef es (fun z => absurd z h) (fun _ => q)⟩
  · obtain ⟨g1, g2⟩ : gu_C1 n lw hg fi se th re le mo ft ns p va := S1 o
    by_cases h : gu_OK lw hg (fi p).toNatClampNeg (va (se p).toNatClampNeg + th p)
    · exact Or.inl ⟨p + 1, upd va (fi p).toNatClampNeg (va (se p).toNatClampNeg + th p), ce, by omega, gu_okU V h, g2 h, C, fun post q => gu_xw1 hp14 o vx vy g1 (fun _ => by rw [nI_1 p]; exact q) (fun z => absurd h z), fun post q => gu_yw1 hp14 ok vx vy ef es et (fun _ => by rw [nI_1 p]; exact q) (fun z => absurd h z)⟩
    · exact Or.inr ⟨2, nI p + 1, by decide, fun post q => gu_xw1 hp14 o vx vy g1 (fun z => absurd z h) (fun _ => q), fun post q => gu_yw1 hp14 ok vx vy ef es et (fun z => absurd z h) (fun _ => q)⟩
  · obtain ⟨g1, g2⟩ : gu_C2 n lw hg fi se th re le mo ft ns p va := S2 o
    by_cases h : gu_OK lw hg (fi p).toNatClampNeg (va (se p).toNatClampNeg + va (th p).toNatClampNeg)
    · exact Or.inl ⟨p + 1, upd va (fi p).toNatClampNeg (va (se p).toNatClampNeg + va (th p).toNatClampNeg), ce, by omega, gu_okU V h, g2 h, C, fun post q => gu_xw2 hp14 o vx vy k1 g1 (fun _ => by rw [nI_1 p]; exact q) (fun z => absurd h z), fun post q => gu_yw2 hp14 ok vx vy k1 ef es et (fun _ => by rw [nI_1 p]; exact q) (fun z => absurd h z)⟩
    · exact Or.inr ⟨2, nI p + 1, by decide, fun post q => gu_xw2 hp14 o vx vy k1 g1 (fun z => absurd z h) (fun _ => q), fun post q => gu_yw2 hp14 ok vx vy k1 ef es et (fun z => absurd z h) (fun _ => q)⟩
  · obtain ⟨g1, g2⟩ : gu_C3 n lw hg fi se th re le mo ft ns p va := S3 o
    by_cases h : gu_OK lw hg (fi p).toNatClampNeg (va (se p).toNatClampNeg &&& th p)
    · exact Or.inl ⟨p + 1, upd va (fi p).toNatClampNeg (va (se p).toNatClampNeg &&& th p), ce, by omega, gu_okU V h, g2 h, C, fun post q => gu_xw3 hp14 o vx vy g1 (fun _ => by rw [nI_1 p]; exact q) (fun z => absurd h z), fun post q => gu_yw3 hp14 ok vx vy ef es et (fun _ => by rw [nI_1 p]; exact q) (fun z => absurd h z)⟩
    · exact Or.inr ⟨2, nI p + 1, by decide, fun post q => gu_xw3 hp14 o vx vy g1 (fun z => absurd z h) (fun _ => q), fun post q => gu_yw3 hp14 ok vx vy ef es et (fun z => absurd z h) (fun _ => q)⟩
  · obtain ⟨g1, g2⟩ : gu_C4 n lw hg fi se th re le mo ft ns p va := S4 o
    by_cases io : gu_IO (va (se p).toNatClampNeg + th p)
    · obtain ⟨g3, g4⟩ := g2 io (ce (va (se p).toNatClampNeg + th p).toNatClampNeg) (C _)
      by_cases h : gu_OK lw hg (fi p).toNatClampNeg (ce (va (se p).toNatClampNeg + th p).toNatClampNeg)
      · exact Or.inl ⟨p + 1, upd va (fi p).toNatClampNeg (ce (va (se p).toNatClampNeg + th p).toNatClampNeg), ce, by omega, gu_okU V h, g4 h, C, fun post q => gu_xw4 hp14 o vx vy g1 (fun _ => g3) (fun _ _ => by rw [nI_1 p]; exact q) (fun _ z => absurd h z) (fun z => absurd io z), fun post q => gu_yw4 hp14 ok vx vy ef es et (fun _ _ => by rw [nI_1 p]; exact q) (fun _ z => absurd h z) (fun z => absurd io z)⟩
      · exact Or.inr ⟨2, nI p + 1, by decide, fun post q => gu_xw4 hp14 o vx vy g1 (fun _ => g3) (fun _ z => absurd z h) (fun _ _ => q) (fun z => absurd io z), fun post q => gu_yw4 hp14 ok vx vy ef es et (fun _ z => absurd z h) (fun _ _ => q) (fun z => absurd io z)⟩
    · exact Or.inr ⟨3, nI p + 1, by decide, fun post q => gu_xw4 hp14 o vx vy g1 (fun z => absurd z io) (fun z => absurd z io) (fun z => absurd z io) (fun _ => q), fun post q => gu_yw4 hp14 ok vx vy ef es et (fun z => absurd z io) (fun z => absurd z io) (fun _ => q)⟩
  · obtain ⟨g1, g2⟩ : gu_C5 n lw hg fi se th re le mo ft ns p va := S5 o
    by_cases io : gu_IO (va (se p).toNatClampNeg + th p)
    · exact Or.inl ⟨p + 1, va, upd ce (va (se p).toNatClampNeg + th p).toNatClampNeg (va (fi p).toNatClampNeg), by omega, V, g2 io, gu_ceU N C (V _ hx), fun post q => gu_xw5 hp14 o vx vy g1 (fun _ => by rw [nI_1 p]; exact q) (fun z => absurd io z), fun post q => gu_yw5 hp14 ok vx vy ef es et (fun _ => by rw [nI_1 p]; exact q) (fun z => absurd io z)⟩
    · exact Or.inr ⟨3, nI p + 1, by decide, fun post q => gu_xw5 hp14 o vx vy g1 (fun z => absurd z io) (fun _ => q), fun post q => gu_yw5 hp14 ok vx vy ef es et (fun z => absurd z io) (fun _ => q)⟩
  · obtain ⟨g1, g2⟩ : gu_C6 n lw hg fi se th re le mo ft ns p va := S6 o
    have kt := gu_cl k1
    have et2 := gu_nIc k1
    by_cases h : va (se p).toNatClampNeg ≤ va (fi p).toNatClampNeg
    · exact Or.inl ⟨p + 1, va, ce, by omega, V, g2 h, C, fun post q => gu_xw6 hp14 o vx vy (fun _ => by rw [nI_1 p]; exact q) (fun z => absurd h z), fun post q => gu_yw6 hp14 ok vx vy ef es et (fun _ => by rw [nI_1 p]; exact q) (fun z => absurd h z)⟩
    · exact Or.inl ⟨(th p).toNatClampNeg, va, ce, by omega, V, g1 h, C, fun post q => gu_xw6 hp14 o vx vy (fun z => absurd z h) (fun _ => by rw [et2] at q; exact q), fun post q => gu_yw6 hp14 ok vx vy ef es et (fun z => absurd z h) (fun _ => by rw [et2] at q; exact q)⟩
  · have g1 : gu_C7 n lw hg fi se th re le mo ft ns p va := S7 o
    have kt := gu_cl k1
    have et2 := gu_nIc k1
    exact Or.inl ⟨(th p).toNatClampNeg, va, ce, by omega, V, g1, C, fun post q => gu_xw7 hp14 o (by rw [et2] at q; exact q), fun post q => gu_yw7 hp14 ok ef (by rw [et2] at q; exact q)⟩
end RgBoth
end
section
section RgRun
variable {n : Nat} {fe fp fc fk fm : Int32} {lw hg op fi se th ce va re le mo wi ft ns lo hi : Nat → Int32} {ye yp yw : Int32} {kd yf ys yt : Nat → Int32}
theorem gu_77d {post : Int32 → SX → Prop} {p : Nat} (hp : p ≤ 14) (h : n ≤ p) (H : post 1 (nI n, 1, (-1), fc, fk, fm, lw, hg, op, fi, se, th, ce, va, re, le, mo, wi, ft, ns, lo, hi)) : wX_run_77 post (nI p) (nI n) fe fp fc fk fm lw hg op fi se th ce va re le mo wi ft ns lo hi := by
  unfold wX_run_77 wpX_stop
  exact br_f (nI_nlt h (by omega)) H
theorem gu_77t {post : Int32 → SX → Prop} {p : Nat} (hn : n ≤ 14) (h : p < n) (H : post 4 (nI n, 4, (-1), fc, fk, fm, lw, hg, op, fi, se, th, ce, va, re, le, mo, wi, ft, ns, lo, hi)) : wX_run_77 post (nI p) (nI n) fe fp fc fk fm lw hg op fi se th ce va re le mo wi ft ns lo hi := by
  unfold wX_run_77 wpX_stop
  exact br_t (nI_lt h (by omega)) (br_f (nI_pos (by omega)) H)
theorem gu_m1lt (hn : n ≤ 14) : (-1 : Int32) < nI n := by
  rw [Int32.lt_iff_toInt_lt, nI_toInt (by omega), show (-1 : Int32).toInt = -1 from by decide]
  omega
theorem gu_77m {post : Int32 → SX → Prop} (hn : n ≤ 14) (H : post fe (nI n, fe, fp, fc, fk, fm, lw, hg, op, fi, se, th, ce, va, re, le, mo, wi, ft, ns, lo, hi)) : wX_run_77 post (-1) (nI n) fe fp fc fk fm lw hg op fi se th ce va re le mo wi ft ns lo hi := by
  unfold wX_run_77 wpX_stop
  exact br_t (gu_m1lt hn) (br_t (by decide) H)
theorem gu_runL (hn : n ≤ 14) (N : gu_BN lw hg) (W : ∀ j, gu_PW (op j) (fi j) (se j) (th j) (kd j) (yf j) (ys j) (yt j)) (S : ∀ j, j < n → re j = 1 → gu_SD n lw hg op fi se th re le mo ft ns j) :
    ∀ d i, i + d = 120 → ∀ (p : Nat) (va ce : Nat → Int32), p ≤ 14 → (∀ z, z < 4 → gu_OK lw hg z (va z)) → gu_IN n re le mo p va → (∀ j, gu_RR (ce j)) →
      ∃ (e pl c : Int32) (va' ce' : Nat → Int32), (∀ j, gu_RR (ce' j)) ∧ (∀ post : Int32 → SX → Prop, post e (nI n, e, pl, c, fk, fm, lw, hg, op, fi, se, th, ce', va', re, le, mo, wi, ft, ns, lo, hi) → wX_run_37 post (d + 1) (nI p) (nI i) (nI n) fe fp (nI i) fk fm lw hg op fi se th ce va re le mo wi ft ns lo hi) ∧
        (∀ post : Int32 → SY → Prop, post e (nI n, e, pl, c, lw, hg, va', ce', kd, yf, ys, yt) → wY_run_73 post (d + 1) (nI p) (nI n) 0 ((-1)) (nI i) lw hg va ce kd yf ys yt) := by
  intro d
  induction d with
  | zero =>
    intro i hi' p va ce hp V I C
    have e : i = 120 := by omega
    subst e
    have t120 : (120 : Int32) ≤ nI 120 := nI_le (a := 120) (Nat.le_refl _) (by decide)
    by_cases h : n ≤ p
    · exact ⟨1, -1, nI 120, va, ce, C, fun post H => br_t t120 (gu_77d hp h H), fun post H => br_t (nI_le h (by omega)) (br_t rfl (br_t (nI_le h (by omega)) H))⟩
    · exact ⟨4, -1, nI 120, va, ce, C, fun post H => br_t t120 (gu_77t hn (by omega) H), fun post H => br_f (nI_ge (by omega) (by omega)) (br_t t120 (br_t rfl (br_f (nI_ge (by omega) (by omega)) H)))⟩
  | succ d ih =>
    intro i hi' p va ce hp V I C
    have t120 : ¬ (120 : Int32) ≤ nI i := nI_ge (b := 120) (by omega) (by decide)
    by_cases h : n ≤ p
    · exact ⟨1, -1, nI i, va, ce, C, fun post H => br_f t120 (br_f (nI_pos (by omega)) (br_t (nI_le h (by omega)) (gu_77d hp h H))), fun post H => br_t (nI_le h (by omega)) (br_t rfl (br_t (nI_le h (by omega)) H))⟩
    · have hl : ¬ nI n ≤ nI p := nI_ge (by omega) (by omega)
      have rp : re p = 1 ∧ gu_BT (fun x => le (4 * p + x)) (fun x => mo (4 * p + x)) va := by
        rcases I with I | I
        · exact absurd I h
        · exact I
      rcases gu_step (n := n) (fe := fe) (fp := fp) (fc := nI (i + 1)) (fk := fk) (fm := fm) (wi := wi) (lo := lo) (hi := hi) (ye := 0) (yp := -1) (yw := nI i) (p := p) (by omega) hn N (W p) (S p (by omega) rp.1) rp.2 V C with ⟨q, va', ce', hq, V', I', C', hX, hY⟩ | ⟨e, q, he, hX, hY⟩
      · obtain ⟨e, pl, c, va2, ce2, C2, kX, kY⟩ := ih (i + 1) (by omega) q va' ce' hq V' I' C'
        refine ⟨e, pl, c, va2, ce2, C2, fun post H => br_f t120 (br_f (nI_pos (by omega)) (br_f hl (nm_r (nI_1 i) (hX _ (nm_r (nI_1 i) (kX post H)))))), fun post H => br_f hl (br_f t120 (br_t rfl (hY _ (nm_r (nI_1 i) (br_t rfl (kY post H))))))⟩
      · refine ⟨e, nI p, nI (i + 1), va, ce, C, fun post H => br_f t120 (br_f (nI_pos (by omega)) (br_f hl (nm_r (nI_1 i) (hX _ (nm_r (nI_1 i) (br_c (fun _ => gu_77m hn H) (fun _ => br_t (by decide) (gu_77m hn H)))))))), fun post H => br_f hl (br_f t120 (br_t rfl (hY _ (nm_r (nI_1 i) (br_f he ?_)))))⟩
        have k : wY_run_134 post q (nI n) e (nI p) (nI (i + 1)) lw hg va ce kd yf ys yt := br_f he H
        exact br_c (fun _ => k) (fun _ => br_c (fun _ => k) (fun _ => br_f he k))
theorem gu_run6 {post : Int32 → SX → Prop} (H : ∃ m, wX_run_37 post m 0 0 (nI n) fe fp 0 fk fm lw hg op fi se th ce (gu_gl 0 4 va (gu_nz lw hg)) re le mo wi ft ns lo hi) : ∀ d j, j + d = 4 → wX_run_6 post (nI n) fe fp fc fk fm (d + 1) (nI j) lw hg op fi se th ce (gu_gl 0 j va (gu_nz lw hg)) re le mo wi ft ns lo hi := by
  intro d
  induction d with
  | zero =>
    intro j hj
    have e : j = 4 := by omega
    subst e
    exact br_t (gu_y4 rfl) H
  | succ d ih =>
    intro j hj
    have c1 : (nI j).toNatClampNeg = j := nI_clamp (by omega)
    have v1 : vp_in (nI j) 4 := vp_in_nI (by omega) (by omega)
    have g := gu_gls 0 j va (gu_nz lw hg)
    rw [Nat.zero_add] at g
    exact br_f (gu_n4 (by omega)) (gu_near (by omega) ⟨v1, nm_r (e' := gu_gl 0 (j + 1) va (gu_nz lw hg)) (by rw [c1, g]) (nm_r (nI_1 j) (ih (j + 1) (by omega)))⟩)
theorem gu_run2 {post : Int32 → SY → Prop} (H : ∃ m, wY_run_73 post m 0 (nI n) 0 ((-1)) 0 lw hg (gu_gl 0 4 va (gu_nz lw hg)) ce kd yf ys yt) : ∀ d j, j + d = 4 → wY_run_2 post (nI n) ye yp yw (d + 1) (nI j) lw hg (gu_gl 0 j va (gu_nz lw hg)) ce kd yf ys yt := by
  intro d
  induction d with
  | zero =>
    intro j hj
    have e : j = 4 := by omega
    subst e
    exact br_t (gu_y4 rfl) H
  | succ d ih =>
    intro j hj
    have c1 : (nI j).toNatClampNeg = j := nI_clamp (by omega)
    have v1 : vp_in (nI j) 4 := vp_in_nI (by omega) (by omega)
    have g := gu_gls 0 j va (gu_nz lw hg)
    rw [Nat.zero_add] at g
    refine br_f (gu_n4 (by omega)) ⟨v1, ?_⟩
    rw [c1]
    refine br_c (fun h1 => ⟨v1, br_c (fun h2 => ⟨v1, nm_r (e' := gu_gl 0 (j + 1) va (gu_nz lw hg)) ?_ (nm_r (nI_1 j) (ih (j + 1) (by omega)))⟩) (fun h2 => ⟨v1, v1, nm_r (e' := gu_gl 0 (j + 1) va (gu_nz lw hg)) ?_ (nm_r (nI_1 j) (ih (j + 1) (by omega)))⟩)⟩) (fun h1 => ⟨v1, v1, nm_r (e' := gu_gl 0 (j + 1) va (gu_nz lw hg)) ?_ (nm_r (nI_1 j) (ih (j + 1) (by omega)))⟩)
    · rw [← g, show gu_nz lw hg j = 0 from (if_pos h1).trans (if_pos h2)]
    · rw [← g, show gu_nz lw hg j = hg j from (if_pos h1).trans (if_neg h2)]
    · rw [← g, show gu_nz lw hg j = lw j from if_neg h1]
theorem gu_run {Q : SX → SY → Prop} (hn : n ≤ 14) (N : gu_BN lw hg) (W : ∀ j, gu_PW (op j) (fi j) (se j) (th j) (kd j) (yf j) (ys j) (yt j)) (C : ∀ j, gu_RR (ce j))
    (K : fk = 0 ∨ (fk = 1 ∧ gu_KN n lw hg op fi se th re le mo ft ns))
    (H : ∀ (e pl c fm : Int32) (ce va re le mo wi ft ns lo hi : Nat → Int32), (∀ j, gu_RR (ce j)) → gu_KN n lw hg op fi se th re le mo ft ns → Q (nI n, e, pl, c, 1, fm, lw, hg, op, fi, se, th, ce, va, re, le, mo, wi, ft, ns, lo, hi) (nI n, e, pl, c, lw, hg, va, ce, kd, yf, ys, yt)) :
    wpX_run (fun r u' => wpY_run (fun r' v' => r' = r ∧ Q u' v') (nI n, ye, yp, yw, lw, hg, va, ce, kd, yf, ys, yt)) (nI n, fe, fp, fc, fk, fm, lw, hg, op, fi, se, th, ce, va, re, le, mo, wi, ft, ns, lo, hi) := by
  unfold wpX_run
  refine gu_analyse hn N (fun j => gu_pwx (W j)) K (fun fm re le mo wi ft ns lo hi kn => ?_)
  have va0 : ∀ x, x < 4 → gu_gl 0 4 va (gu_nz lw hg) x = gu_nz lw hg x := fun x hx => by
    have h := gu_gli (b := 0) (f := va) (g := gu_nz lw hg) hx
    rw [Nat.zero_add] at h
    exact h
  obtain ⟨e, pl, c, va2, ce2, C2, kX, kY⟩ := gu_runL (fe := fe) (fp := fp) (fk := 1) (fm := fm) (wi := wi) (lo := lo) (hi := hi) hn N W kn.2 120 0 rfl 0 (gu_gl 0 4 va (gu_nz lw hg)) ce (by omega) (fun z hz => by rw [va0 z hz]; exact gu_nzB N z) (kn.1 _ va0) C
  have k6 := gu_run6 (post := fun r u' => wpY_run (fun r' v' => r' = r ∧ Q u' v') (nI n, ye, yp, yw, lw, hg, va, ce, kd, yf, ys, yt)) (n := n) (fe := fe) (fp := fp) (fc := fc) (fk := 1) (fm := fm) (op := op) (fi := fi) (se := se) (th := th) (ce := ce) (va := va) (re := re) (le := le) (mo := mo) (wi := wi) (ft := ft) (ns := ns) (lo := lo) (hi := hi) (lw := lw) (hg := hg) ⟨121, kX _ ?_⟩ 4 0 rfl
  · rw [gu_gl0] at k6
    exact ⟨5, k6⟩
  · have k2 := gu_run2 (post := fun r' v' => r' = e ∧ Q (nI n, e, pl, c, 1, fm, lw, hg, op, fi, se, th, ce2, va2, re, le, mo, wi, ft, ns, lo, hi) v') (n := n) (ye := ye) (yp := yp) (yw := yw) (lw := lw) (hg := hg) (va := va) (ce := ce) (kd := kd) (yf := yf) (ys := ys) (yt := yt) ⟨121, kY _ ⟨rfl, H e pl c fm ce2 va2 re le mo wi ft ns lo hi C2 kn⟩⟩ 4 0 rfl
    rw [gu_gl0] at k2
    exact ⟨5, k2⟩
end RgRun
end
section
section RgSmall
variable {n : Nat} {fe fp fc fk fm : Int32} {lw hg op fi se th ce va re le mo wi ft ns lo hi : Nat → Int32} {ye yp yw : Int32} {kd yf ys yt : Nat → Int32}
theorem gu_v04 : vp_in (0 : Int32) 4 := vp_in_iff.mpr (by decide)
theorem gu_v15 {x : Int32} (h : 0 ≤ x.toInt ∧ x.toInt ≤ 14) : vp_in x 15 := vp_in_iff.mpr ⟨h.1, by have := h.2; omega⟩
theorem gu_v4 {x : Int32} : vp_in x 4 ↔ 0 ≤ x.toInt ∧ x.toInt ≤ 3 := by
  rw [vp_in_iff]
  exact ⟨fun h => ⟨h.1, by have := h.2; omega⟩, fun h => ⟨h.1, by have := h.2; omega⟩⟩
theorem gu_rng {v a b : Int32} {A B : Prop} (la lb : Int) (ha : a.toInt = la) (hb : b.toInt = lb) (h1 : la ≤ v.toInt ∧ v.toInt ≤ lb → A) (h0 : ¬ (la ≤ v.toInt ∧ v.toInt ≤ lb) → B) : (v < a → B) ∧ (¬ v < a → ((v ≤ b → A) ∧ (¬ v ≤ b → B))) :=
  gu_lt _ _ rfl ha (fun h => h0 fun q => by omega) (fun h => gu_le _ _ rfl hb (fun h2 => h1 ⟨h, h2⟩) (fun h2 => h0 fun q => by omega))
theorem gu_bad {K : Int32 → Prop} {p : Int32} (h0 : vp_in p 4 → K 0) (h1 : ¬ vp_in p 4 → K 1) : wpX_bad K (nI n, fe, fp, fc, fk, fm, lw, hg, op, fi, se, th, ce, va, re, le, mo, wi, ft, ns, lo, hi) p := by
  unfold wpX_bad
  exact gu_rng 0 3 (by decide) (by decide) (fun h => h0 (gu_v4.mpr h)) (fun h => h1 fun q => h (gu_v4.mp q))
theorem gu_bnum {K : Int32 → Prop} {p : Int32} (h0 : gu_RR p → K 0) (h1 : ¬ gu_RR p → K 1) : wpX_badNumber K (nI n, fe, fp, fc, fk, fm, lw, hg, op, fi, se, th, ce, va, re, le, mo, wi, ft, ns, lo, hi) p := by
  unfold wpX_badNumber
  exact gu_rng (-100) 100 (by decide) (by decide) (fun h => h0 h) (fun h => h1 h)
theorem gu_isv {K : Int32 → Prop} {p : Int32} (h1 : vp_in p 4 → K 1) (h0 : ¬ vp_in p 4 → K 0) : wpY_isVariable K (nI n, ye, yp, yw, lw, hg, va, ce, kd, yf, ys, yt) p := by
  unfold wpY_isVariable
  exact gu_lt _ _ rfl gu_t0 (fun h => h0 fun q => by have := (gu_v4.mp q).1; omega) (fun h => gu_lt 3 _ (by decide) rfl (fun h2 => h0 fun q => by have := (gu_v4.mp q).2; omega) (fun h2 => h1 (gu_v4.mpr ⟨h, h2⟩)))
theorem gu_wi {K : Int32 → Prop} {v a b : Int32} (la lb : Int) (ha : a.toInt = la) (hb : b.toInt = lb) (h1 : la ≤ v.toInt ∧ v.toInt ≤ lb → K 1) (h0 : ¬ (la ≤ v.toInt ∧ v.toInt ≤ lb) → K 0) : wpY_isWithin K (nI n, ye, yp, yw, lw, hg, va, ce, kd, yf, ys, yt) v a b := by
  subst ha hb
  exact gu_within h1 h0
theorem gu_xapp {K : Int32 → SX → Prop} {o f s t : Int32} (hn : n ≤ 14) (hf : n = 14 → K (-2) (nI n, fe, fp, fc, fk, fm, lw, hg, op, fi, se, th, ce, va, re, le, mo, wi, ft, ns, lo, hi)) (ha : n < 14 → K (nI n) (nI (n + 1), fe, fp, fc, 0, fm, lw, hg, upd op n o, upd fi n f, upd se n s, upd th n t, ce, va, re, le, mo, wi, ft, ns, lo, hi)) : wpX_append K (nI n, fe, fp, fc, fk, fm, lw, hg, op, fi, se, th, ce, va, re, le, mo, wi, ft, ns, lo, hi) o f s t := by
  have c : (nI n).toNatClampNeg = n := nI_clamp (by omega)
  unfold wpX_append
  by_cases h : n = 14
  · exact br_t (by rw [h]; rfl) (hf h)
  · have v : vp_in (nI n) 14 := vp_in_nI (by omega) (by omega)
    refine br_f (fun e => h ((nI_eq (b := 14) (by omega) (by decide)).mp e)) ⟨v, nm_r (e' := upd op n o) (by rw [c]) ⟨v, nm_r (e' := upd fi n f) (by rw [c]) ⟨v, nm_r (e' := upd se n s) (by rw [c]) ⟨v, nm_r (e' := upd th n t) (by rw [c]) (nm_r (nI_1 n) ?_)⟩⟩⟩⟩
    rw [nI_pred]
    exact ha (by omega)
theorem gu_yapp {K : Int32 → SY → Prop} {o f s t : Int32} (hn : n ≤ 14) (hf : n = 14 → K (-2) (nI n, ye, yp, yw, lw, hg, va, ce, kd, yf, ys, yt)) (ha : n < 14 → K (nI n) (nI (n + 1), ye, yp, yw, lw, hg, va, ce, upd kd n o, upd yf n f, upd ys n s, upd yt n t)) : wpY_append K (nI n, ye, yp, yw, lw, hg, va, ce, kd, yf, ys, yt) o f s t := by
  have c : (nI n).toNatClampNeg = n := nI_clamp (by omega)
  unfold wpY_append
  by_cases h : n = 14
  · exact br_t (by rw [h]; rfl) (hf h)
  · have v : vp_in (nI n) 14 := vp_in_nI (by omega) (by omega)
    refine br_f (fun e => h ((nI_eq (b := 14) (by omega) (by decide)).mp e)) ⟨v, nm_r (e' := upd kd n o) (by rw [c]) ⟨v, nm_r (e' := upd yf n f) (by rw [c]) ⟨v, nm_r (e' := upd ys n s) (by rw [c]) ⟨v, nm_r (e' := upd yt n t) (by rw [c]) (nm_r (nI_1 n) ?_)⟩⟩⟩⟩
    rw [nI_pred]
    exact ha (by omega)
theorem gu_xconstant {K : Int32 → SX → Prop} {p0 p1 : Int32} (hn : n ≤ 14) (hf : n = 14 → vp_in p0 4 ∧ gu_RR p1 → K (-2) (nI n, fe, fp, fc, fk, fm, lw, hg, op, fi, se, th, ce, va, re, le, mo, wi, ft, ns, lo, hi))
    (ha : n < 14 → vp_in p0 4 ∧ gu_RR p1 → K (nI n) (nI (n + 1), fe, fp, fc, 0, fm, lw, hg, upd op n 0, upd fi n p0, upd se n 0, upd th n p1, ce, va, re, le, mo, wi, ft, ns, lo, hi)) (hb : ¬ (vp_in p0 4 ∧ gu_RR p1) → K (-1) (nI n, fe, fp, fc, fk, fm, lw, hg, op, fi, se, th, ce, va, re, le, mo, wi, ft, ns, lo, hi)) : wpX_constant K (nI n, fe, fp, fc, fk, fm, lw, hg, op, fi, se, th, ce, va, re, le, mo, wi, ft, ns, lo, hi) p0 p1 := by
  unfold wpX_constant
  exact (gu_bad (fun h0 => br_t rfl (gu_bnum (fun h1 => br_t rfl (gu_xapp hn (fun e => hf e ⟨h0, h1⟩) (fun e => ha e ⟨h0, h1⟩))) (fun h1 => br_f (by decide) (hb fun q => h1 q.2)))) (fun h0 => br_f (by decide) (hb fun q => h0 q.1)))
theorem gu_xplus {K : Int32 → SX → Prop} {p0 p1 p2 : Int32} (hn : n ≤ 14) (hf : n = 14 → vp_in p0 4 ∧ vp_in p1 4 ∧ gu_RR p2 → K (-2) (nI n, fe, fp, fc, fk, fm, lw, hg, op, fi, se, th, ce, va, re, le, mo, wi, ft, ns, lo, hi))
    (ha : n < 14 → vp_in p0 4 ∧ vp_in p1 4 ∧ gu_RR p2 → K (nI n) (nI (n + 1), fe, fp, fc, 0, fm, lw, hg, upd op n 1, upd fi n p0, upd se n p1, upd th n p2, ce, va, re, le, mo, wi, ft, ns, lo, hi)) (hb : ¬ (vp_in p0 4 ∧ vp_in p1 4 ∧ gu_RR p2) → K (-1) (nI n, fe, fp, fc, fk, fm, lw, hg, op, fi, se, th, ce, va, re, le, mo, wi, ft, ns, lo, hi)) : wpX_plus K (nI n, fe, fp, fc, fk, fm, lw, hg, op, fi, se, th, ce, va, re, le, mo, wi, ft, ns, lo, hi) p0 p1 p2 := by
  unfold wpX_plus
  exact (gu_bad (fun h0 => br_t rfl (gu_bad (fun h1 => br_t rfl (gu_bnum (fun h2 => br_t rfl (gu_xapp hn (fun e => hf e ⟨h0, h1, h2⟩) (fun e => ha e ⟨h0, h1, h2⟩))) (fun h2 => br_f (by decide) (hb fun q => h2 q.2.2)))) (fun h1 => br_f (by decide) (hb fun q => h1 q.2.1)))) (fun h0 => br_f (by decide) (hb fun q => h0 q.1)))
theorem gu_xsum {K : Int32 → SX → Prop} {p0 p1 p2 : Int32} (hn : n ≤ 14) (hf : n = 14 → vp_in p0 4 ∧ vp_in p1 4 ∧ vp_in p2 4 → K (-2) (nI n, fe, fp, fc, fk, fm, lw, hg, op, fi, se, th, ce, va, re, le, mo, wi, ft, ns, lo, hi))
    (ha : n < 14 → vp_in p0 4 ∧ vp_in p1 4 ∧ vp_in p2 4 → K (nI n) (nI (n + 1), fe, fp, fc, 0, fm, lw, hg, upd op n 2, upd fi n p0, upd se n p1, upd th n p2, ce, va, re, le, mo, wi, ft, ns, lo, hi)) (hb : ¬ (vp_in p0 4 ∧ vp_in p1 4 ∧ vp_in p2 4) → K (-1) (nI n, fe, fp, fc, fk, fm, lw, hg, op, fi, se, th, ce, va, re, le, mo, wi, ft, ns, lo, hi)) : wpX_sum K (nI n, fe, fp, fc, fk, fm, lw, hg, op, fi, se, th, ce, va, re, le, mo, wi, ft, ns, lo, hi) p0 p1 p2 := by
  unfold wpX_sum
  exact (gu_bad (fun h0 => br_t rfl (gu_bad (fun h1 => br_t rfl (gu_bad (fun h2 => br_t rfl (gu_xapp hn (fun e => hf e ⟨h0, h1, h2⟩) (fun e => ha e ⟨h0, h1, h2⟩))) (fun h2 => br_f (by decide) (hb fun q => h2 q.2.2)))) (fun h1 => br_f (by decide) (hb fun q => h1 q.2.1)))) (fun h0 => br_f (by decide) (hb fun q => h0 q.1)))
theorem gu_xmask {K : Int32 → SX → Prop} {p0 p1 p2 : Int32} (hn : n ≤ 14) (hf : n = 14 → vp_in p0 4 ∧ vp_in p1 4 ∧ (0 ≤ p2.toInt ∧ p2.toInt ≤ 63) → K (-2) (nI n, fe, fp, fc, fk, fm, lw, hg, op, fi, se, th, ce, va, re, le, mo, wi, ft, ns, lo, hi))
    (ha : n < 14 → vp_in p0 4 ∧ vp_in p1 4 ∧ (0 ≤ p2.toInt ∧ p2.toInt ≤ 63) → K (nI n) (nI (n + 1), fe, fp, fc, 0, fm, lw, hg, upd op n 3, upd fi n p0, upd se n p1, upd th n p2, ce, va, re, le, mo, wi, ft, ns, lo, hi)) (hb : ¬ (vp_in p0 4 ∧ vp_in p1 4 ∧ (0 ≤ p2.toInt ∧ p2.toInt ≤ 63)) → K (-1) (nI n, fe, fp, fc, fk, fm, lw, hg, op, fi, se, th, ce, va, re, le, mo, wi, ft, ns, lo, hi)) : wpX_mask K (nI n, fe, fp, fc, fk, fm, lw, hg, op, fi, se, th, ce, va, re, le, mo, wi, ft, ns, lo, hi) p0 p1 p2 := by
  unfold wpX_mask
  exact (gu_bad (fun h0 => br_t rfl (gu_bad (fun h1 => br_t rfl (gu_rng (0) 63 (by decide) (by decide) (fun h2 => gu_xapp hn (fun e => hf e ⟨h0, h1, h2⟩) (fun e => ha e ⟨h0, h1, h2⟩)) (fun h2 => hb fun q => h2 q.2.2))) (fun h1 => br_f (by decide) (hb fun q => h1 q.2.1)))) (fun h0 => br_f (by decide) (hb fun q => h0 q.1)))
theorem gu_xload {K : Int32 → SX → Prop} {p0 p1 p2 : Int32} (hn : n ≤ 14) (hf : n = 14 → vp_in p0 4 ∧ vp_in p1 4 ∧ gu_R8 p2 → K (-2) (nI n, fe, fp, fc, fk, fm, lw, hg, op, fi, se, th, ce, va, re, le, mo, wi, ft, ns, lo, hi))
    (ha : n < 14 → vp_in p0 4 ∧ vp_in p1 4 ∧ gu_R8 p2 → K (nI n) (nI (n + 1), fe, fp, fc, 0, fm, lw, hg, upd op n 4, upd fi n p0, upd se n p1, upd th n p2, ce, va, re, le, mo, wi, ft, ns, lo, hi)) (hb : ¬ (vp_in p0 4 ∧ vp_in p1 4 ∧ gu_R8 p2) → K (-1) (nI n, fe, fp, fc, fk, fm, lw, hg, op, fi, se, th, ce, va, re, le, mo, wi, ft, ns, lo, hi)) : wpX_load K (nI n, fe, fp, fc, fk, fm, lw, hg, op, fi, se, th, ce, va, re, le, mo, wi, ft, ns, lo, hi) p0 p1 p2 := by
  unfold wpX_load wpX_access
  exact (gu_bad (fun h0 => br_t rfl (gu_bad (fun h1 => br_t rfl (gu_rng (-8) 8 (by decide) (by decide) (fun h2 => gu_xapp hn (fun e => hf e ⟨h0, h1, h2⟩) (fun e => ha e ⟨h0, h1, h2⟩)) (fun h2 => hb fun q => h2 q.2.2))) (fun h1 => br_f (by decide) (hb fun q => h1 q.2.1)))) (fun h0 => br_f (by decide) (hb fun q => h0 q.1)))
theorem gu_xstore {K : Int32 → SX → Prop} {p0 p1 p2 : Int32} (hn : n ≤ 14) (hf : n = 14 → vp_in p0 4 ∧ vp_in p1 4 ∧ gu_R8 p2 → K (-2) (nI n, fe, fp, fc, fk, fm, lw, hg, op, fi, se, th, ce, va, re, le, mo, wi, ft, ns, lo, hi))
    (ha : n < 14 → vp_in p0 4 ∧ vp_in p1 4 ∧ gu_R8 p2 → K (nI n) (nI (n + 1), fe, fp, fc, 0, fm, lw, hg, upd op n 5, upd fi n p0, upd se n p1, upd th n p2, ce, va, re, le, mo, wi, ft, ns, lo, hi)) (hb : ¬ (vp_in p0 4 ∧ vp_in p1 4 ∧ gu_R8 p2) → K (-1) (nI n, fe, fp, fc, fk, fm, lw, hg, op, fi, se, th, ce, va, re, le, mo, wi, ft, ns, lo, hi)) : wpX_store K (nI n, fe, fp, fc, fk, fm, lw, hg, op, fi, se, th, ce, va, re, le, mo, wi, ft, ns, lo, hi) p0 p1 p2 := by
  unfold wpX_store wpX_access
  exact (gu_bad (fun h0 => br_t rfl (gu_bad (fun h1 => br_t rfl (gu_rng (-8) 8 (by decide) (by decide) (fun h2 => gu_xapp hn (fun e => hf e ⟨h0, h1, h2⟩) (fun e => ha e ⟨h0, h1, h2⟩)) (fun h2 => hb fun q => h2 q.2.2))) (fun h1 => br_f (by decide) (hb fun q => h1 q.2.1)))) (fun h0 => br_f (by decide) (hb fun q => h0 q.1)))
theorem gu_xless {K : Int32 → SX → Prop} {p0 p1 p2 : Int32} (hn : n ≤ 14) (hf : n = 14 → vp_in p0 4 ∧ vp_in p1 4 ∧ (0 ≤ p2.toInt ∧ p2.toInt ≤ 14) → K (-2) (nI n, fe, fp, fc, fk, fm, lw, hg, op, fi, se, th, ce, va, re, le, mo, wi, ft, ns, lo, hi))
    (ha : n < 14 → vp_in p0 4 ∧ vp_in p1 4 ∧ (0 ≤ p2.toInt ∧ p2.toInt ≤ 14) → K (nI n) (nI (n + 1), fe, fp, fc, 0, fm, lw, hg, upd op n 6, upd fi n p0, upd se n p1, upd th n p2, ce, va, re, le, mo, wi, ft, ns, lo, hi)) (hb : ¬ (vp_in p0 4 ∧ vp_in p1 4 ∧ (0 ≤ p2.toInt ∧ p2.toInt ≤ 14)) → K (-1) (nI n, fe, fp, fc, fk, fm, lw, hg, op, fi, se, th, ce, va, re, le, mo, wi, ft, ns, lo, hi)) : wpX_less K (nI n, fe, fp, fc, fk, fm, lw, hg, op, fi, se, th, ce, va, re, le, mo, wi, ft, ns, lo, hi) p0 p1 p2 := by
  unfold wpX_less
  exact (gu_bad (fun h0 => br_t rfl (gu_bad (fun h1 => br_t rfl (gu_rng (0) 14 (by decide) (by decide) (fun h2 => gu_xapp hn (fun e => hf e ⟨h0, h1, h2⟩) (fun e => ha e ⟨h0, h1, h2⟩)) (fun h2 => hb fun q => h2 q.2.2))) (fun h1 => br_f (by decide) (hb fun q => h1 q.2.1)))) (fun h0 => br_f (by decide) (hb fun q => h0 q.1)))
theorem gu_xjump {K : Int32 → SX → Prop} {p0 : Int32} (hn : n ≤ 14) (hf : n = 14 → (0 ≤ p0.toInt ∧ p0.toInt ≤ 14) → K (-2) (nI n, fe, fp, fc, fk, fm, lw, hg, op, fi, se, th, ce, va, re, le, mo, wi, ft, ns, lo, hi))
    (ha : n < 14 → (0 ≤ p0.toInt ∧ p0.toInt ≤ 14) → K (nI n) (nI (n + 1), fe, fp, fc, 0, fm, lw, hg, upd op n 7, upd fi n 0, upd se n 0, upd th n p0, ce, va, re, le, mo, wi, ft, ns, lo, hi)) (hb : ¬ ((0 ≤ p0.toInt ∧ p0.toInt ≤ 14)) → K (-1) (nI n, fe, fp, fc, fk, fm, lw, hg, op, fi, se, th, ce, va, re, le, mo, wi, ft, ns, lo, hi)) : wpX_jump K (nI n, fe, fp, fc, fk, fm, lw, hg, op, fi, se, th, ce, va, re, le, mo, wi, ft, ns, lo, hi) p0 := by
  unfold wpX_jump
  exact (gu_rng (0) 14 (by decide) (by decide) (fun h0 => gu_xapp hn (fun e => hf e h0) (fun e => ha e h0)) (fun h0 => hb h0))
theorem gu_yconstant {K : Int32 → SY → Prop} {p0 p1 : Int32} (hn : n ≤ 14) (hf : n = 14 → vp_in p0 4 ∧ gu_RR p1 → K (-2) (nI n, ye, yp, yw, lw, hg, va, ce, kd, yf, ys, yt))
    (ha : n < 14 → vp_in p0 4 ∧ gu_RR p1 → K (nI n) (nI (n + 1), ye, yp, yw, lw, hg, va, ce, upd kd n 0, upd yf n p0, upd ys n p1, upd yt n 0)) (hb : ¬ (vp_in p0 4 ∧ gu_RR p1) → K (-1) (nI n, ye, yp, yw, lw, hg, va, ce, kd, yf, ys, yt)) : wpY_constant K (nI n, ye, yp, yw, lw, hg, va, ce, kd, yf, ys, yt) p0 p1 := by
  unfold wpY_constant
  exact (gu_isv (fun h0 => br_f (by decide) (gu_wi (-100) 100 (by decide) (by decide) (fun h1 => br_f (by decide) (gu_yapp hn (fun e => hf e ⟨h0, h1⟩) (fun e => ha e ⟨h0, h1⟩))) (fun h1 => br_t rfl (hb fun q => h1 q.2)))) (fun h0 => br_t rfl (hb fun q => h0 q.1)))
theorem gu_yplus {K : Int32 → SY → Prop} {p0 p1 p2 : Int32} (hn : n ≤ 14) (hf : n = 14 → vp_in p0 4 ∧ vp_in p1 4 ∧ gu_RR p2 → K (-2) (nI n, ye, yp, yw, lw, hg, va, ce, kd, yf, ys, yt))
    (ha : n < 14 → vp_in p0 4 ∧ vp_in p1 4 ∧ gu_RR p2 → K (nI n) (nI (n + 1), ye, yp, yw, lw, hg, va, ce, upd kd n 1, upd yf n p0, upd ys n p1, upd yt n p2)) (hb : ¬ (vp_in p0 4 ∧ vp_in p1 4 ∧ gu_RR p2) → K (-1) (nI n, ye, yp, yw, lw, hg, va, ce, kd, yf, ys, yt)) : wpY_plus K (nI n, ye, yp, yw, lw, hg, va, ce, kd, yf, ys, yt) p0 p1 p2 := by
  unfold wpY_plus
  exact (gu_isv (fun h0 => br_f (by decide) (gu_isv (fun h1 => br_f (by decide) (gu_wi (-100) 100 (by decide) (by decide) (fun h2 => br_f (by decide) (gu_yapp hn (fun e => hf e ⟨h0, h1, h2⟩) (fun e => ha e ⟨h0, h1, h2⟩))) (fun h2 => br_t rfl (hb fun q => h2 q.2.2)))) (fun h1 => br_t rfl (hb fun q => h1 q.2.1)))) (fun h0 => br_t rfl (hb fun q => h0 q.1)))
theorem gu_ysum {K : Int32 → SY → Prop} {p0 p1 p2 : Int32} (hn : n ≤ 14) (hf : n = 14 → vp_in p0 4 ∧ vp_in p1 4 ∧ vp_in p2 4 → K (-2) (nI n, ye, yp, yw, lw, hg, va, ce, kd, yf, ys, yt))
    (ha : n < 14 → vp_in p0 4 ∧ vp_in p1 4 ∧ vp_in p2 4 → K (nI n) (nI (n + 1), ye, yp, yw, lw, hg, va, ce, upd kd n 2, upd yf n p0, upd ys n p1, upd yt n p2)) (hb : ¬ (vp_in p0 4 ∧ vp_in p1 4 ∧ vp_in p2 4) → K (-1) (nI n, ye, yp, yw, lw, hg, va, ce, kd, yf, ys, yt)) : wpY_sum K (nI n, ye, yp, yw, lw, hg, va, ce, kd, yf, ys, yt) p0 p1 p2 := by
  unfold wpY_sum
  exact (gu_isv (fun h0 => br_f (by decide) (gu_isv (fun h1 => br_f (by decide) (gu_isv (fun h2 => br_f (by decide) (gu_yapp hn (fun e => hf e ⟨h0, h1, h2⟩) (fun e => ha e ⟨h0, h1, h2⟩))) (fun h2 => br_t rfl (hb fun q => h2 q.2.2)))) (fun h1 => br_t rfl (hb fun q => h1 q.2.1)))) (fun h0 => br_t rfl (hb fun q => h0 q.1)))
theorem gu_ymask {K : Int32 → SY → Prop} {p0 p1 p2 : Int32} (hn : n ≤ 14) (hf : n = 14 → vp_in p0 4 ∧ vp_in p1 4 ∧ (0 ≤ p2.toInt ∧ p2.toInt ≤ 63) → K (-2) (nI n, ye, yp, yw, lw, hg, va, ce, kd, yf, ys, yt))
    (ha : n < 14 → vp_in p0 4 ∧ vp_in p1 4 ∧ (0 ≤ p2.toInt ∧ p2.toInt ≤ 63) → K (nI n) (nI (n + 1), ye, yp, yw, lw, hg, va, ce, upd kd n 3, upd yf n p0, upd ys n p1, upd yt n p2)) (hb : ¬ (vp_in p0 4 ∧ vp_in p1 4 ∧ (0 ≤ p2.toInt ∧ p2.toInt ≤ 63)) → K (-1) (nI n, ye, yp, yw, lw, hg, va, ce, kd, yf, ys, yt)) : wpY_mask K (nI n, ye, yp, yw, lw, hg, va, ce, kd, yf, ys, yt) p0 p1 p2 := by
  unfold wpY_mask
  exact (gu_isv (fun h0 => br_f (by decide) (gu_isv (fun h1 => br_f (by decide) (gu_wi (0) 63 (by decide) (by decide) (fun h2 => br_f (by decide) (gu_yapp hn (fun e => hf e ⟨h0, h1, h2⟩) (fun e => ha e ⟨h0, h1, h2⟩))) (fun h2 => br_t rfl (hb fun q => h2 q.2.2)))) (fun h1 => br_t rfl (hb fun q => h1 q.2.1)))) (fun h0 => br_t rfl (hb fun q => h0 q.1)))
theorem gu_yload {K : Int32 → SY → Prop} {p0 p1 p2 : Int32} (hn : n ≤ 14) (hf : n = 14 → vp_in p0 4 ∧ vp_in p1 4 ∧ gu_R8 p2 → K (-2) (nI n, ye, yp, yw, lw, hg, va, ce, kd, yf, ys, yt))
    (ha : n < 14 → vp_in p0 4 ∧ vp_in p1 4 ∧ gu_R8 p2 → K (nI n) (nI (n + 1), ye, yp, yw, lw, hg, va, ce, upd kd n 4, upd yf n p0, upd ys n p1, upd yt n p2)) (hb : ¬ (vp_in p0 4 ∧ vp_in p1 4 ∧ gu_R8 p2) → K (-1) (nI n, ye, yp, yw, lw, hg, va, ce, kd, yf, ys, yt)) : wpY_load K (nI n, ye, yp, yw, lw, hg, va, ce, kd, yf, ys, yt) p0 p1 p2 := by
  unfold wpY_load
  exact (gu_isv (fun h0 => br_f (by decide) (gu_isv (fun h1 => br_f (by decide) (gu_wi (-8) 8 (by decide) (by decide) (fun h2 => br_f (by decide) (gu_yapp hn (fun e => hf e ⟨h0, h1, h2⟩) (fun e => ha e ⟨h0, h1, h2⟩))) (fun h2 => br_t rfl (hb fun q => h2 q.2.2)))) (fun h1 => br_t rfl (hb fun q => h1 q.2.1)))) (fun h0 => br_t rfl (hb fun q => h0 q.1)))
theorem gu_ystore {K : Int32 → SY → Prop} {p0 p1 p2 : Int32} (hn : n ≤ 14) (hf : n = 14 → vp_in p0 4 ∧ vp_in p1 4 ∧ gu_R8 p2 → K (-2) (nI n, ye, yp, yw, lw, hg, va, ce, kd, yf, ys, yt))
    (ha : n < 14 → vp_in p0 4 ∧ vp_in p1 4 ∧ gu_R8 p2 → K (nI n) (nI (n + 1), ye, yp, yw, lw, hg, va, ce, upd kd n 5, upd yf n p0, upd ys n p1, upd yt n p2)) (hb : ¬ (vp_in p0 4 ∧ vp_in p1 4 ∧ gu_R8 p2) → K (-1) (nI n, ye, yp, yw, lw, hg, va, ce, kd, yf, ys, yt)) : wpY_store K (nI n, ye, yp, yw, lw, hg, va, ce, kd, yf, ys, yt) p0 p1 p2 := by
  unfold wpY_store
  exact (gu_isv (fun h0 => br_f (by decide) (gu_isv (fun h1 => br_f (by decide) (gu_wi (-8) 8 (by decide) (by decide) (fun h2 => br_f (by decide) (gu_yapp hn (fun e => hf e ⟨h0, h1, h2⟩) (fun e => ha e ⟨h0, h1, h2⟩))) (fun h2 => br_t rfl (hb fun q => h2 q.2.2)))) (fun h1 => br_t rfl (hb fun q => h1 q.2.1)))) (fun h0 => br_t rfl (hb fun q => h0 q.1)))
theorem gu_yless {K : Int32 → SY → Prop} {p0 p1 p2 : Int32} (hn : n ≤ 14) (hf : n = 14 → vp_in p0 4 ∧ vp_in p1 4 ∧ (0 ≤ p2.toInt ∧ p2.toInt ≤ 14) → K (-2) (nI n, ye, yp, yw, lw, hg, va, ce, kd, yf, ys, yt))
    (ha : n < 14 → vp_in p0 4 ∧ vp_in p1 4 ∧ (0 ≤ p2.toInt ∧ p2.toInt ≤ 14) → K (nI n) (nI (n + 1), ye, yp, yw, lw, hg, va, ce, upd kd n 6, upd yf n p0, upd ys n p1, upd yt n p2)) (hb : ¬ (vp_in p0 4 ∧ vp_in p1 4 ∧ (0 ≤ p2.toInt ∧ p2.toInt ≤ 14)) → K (-1) (nI n, ye, yp, yw, lw, hg, va, ce, kd, yf, ys, yt)) : wpY_less K (nI n, ye, yp, yw, lw, hg, va, ce, kd, yf, ys, yt) p0 p1 p2 := by
  unfold wpY_less
  exact (gu_isv (fun h0 => br_f (by decide) (gu_isv (fun h1 => br_f (by decide) (gu_wi (0) 14 (by decide) (by decide) (fun h2 => br_f (by decide) (gu_yapp hn (fun e => hf e ⟨h0, h1, h2⟩) (fun e => ha e ⟨h0, h1, h2⟩))) (fun h2 => br_t rfl (hb fun q => h2 q.2.2)))) (fun h1 => br_t rfl (hb fun q => h1 q.2.1)))) (fun h0 => br_t rfl (hb fun q => h0 q.1)))
theorem gu_yjump {K : Int32 → SY → Prop} {p0 : Int32} (hn : n ≤ 14) (hf : n = 14 → (0 ≤ p0.toInt ∧ p0.toInt ≤ 14) → K (-2) (nI n, ye, yp, yw, lw, hg, va, ce, kd, yf, ys, yt))
    (ha : n < 14 → (0 ≤ p0.toInt ∧ p0.toInt ≤ 14) → K (nI n) (nI (n + 1), ye, yp, yw, lw, hg, va, ce, upd kd n 7, upd yf n p0, upd ys n 0, upd yt n 0)) (hb : ¬ ((0 ≤ p0.toInt ∧ p0.toInt ≤ 14)) → K (-1) (nI n, ye, yp, yw, lw, hg, va, ce, kd, yf, ys, yt)) : wpY_jump K (nI n, ye, yp, yw, lw, hg, va, ce, kd, yf, ys, yt) p0 := by
  unfold wpY_jump
  exact (gu_wi (0) 14 (by decide) (by decide) (fun h0 => br_f (by decide) (gu_yapp hn (fun e => hf e h0) (fun e => ha e h0))) (fun h0 => br_t rfl (hb h0)))
/-! range, cells -/
theorem gu_xrange {K : Int32 → SX → Prop} {p0 p1 p2 : Int32} (h1 : (vp_in p0 4 ∧ gu_RR p1 ∧ gu_RR p2 ∧ p1 ≤ p2) → K 0 (nI n, fe, fp, fc, 0, fm, upd lw p0.toNatClampNeg p1, upd hg p0.toNatClampNeg p2, op, fi, se, th, ce, va, re, le, mo, wi, ft, ns, lo, hi)) (h0 : ¬ (vp_in p0 4 ∧ gu_RR p1 ∧ gu_RR p2 ∧ p1 ≤ p2) → K (-1) (nI n, fe, fp, fc, fk, fm, lw, hg, op, fi, se, th, ce, va, re, le, mo, wi, ft, ns, lo, hi)) : wpX_range K (nI n, fe, fp, fc, fk, fm, lw, hg, op, fi, se, th, ce, va, re, le, mo, wi, ft, ns, lo, hi) p0 p1 p2 := by
  unfold wpX_range
  exact gu_bad (fun a => br_t rfl (gu_bnum (fun b => br_t rfl (gu_bnum (fun c => br_t rfl (br_c (fun d => ⟨a, nm_e ⟨a, nm_e (h1 ⟨a, b, c, d⟩)⟩⟩) (fun d => h0 fun q => d q.2.2.2))) (fun c => br_f (by decide) (h0 fun q => c q.2.2.1)))) (fun b => br_f (by decide) (h0 fun q => b q.2.1)))) (fun a => br_f (by decide) (h0 fun q => a q.1))
theorem gu_yrange {K : Int32 → SY → Prop} {p0 p1 p2 : Int32} (h1 : (vp_in p0 4 ∧ gu_RR p1 ∧ gu_RR p2 ∧ p1 ≤ p2) → K 0 (nI n, ye, yp, yw, upd lw p0.toNatClampNeg p1, upd hg p0.toNatClampNeg p2, va, ce, kd, yf, ys, yt)) (h0 : ¬ (vp_in p0 4 ∧ gu_RR p1 ∧ gu_RR p2 ∧ p1 ≤ p2) → K (-1) (nI n, ye, yp, yw, lw, hg, va, ce, kd, yf, ys, yt)) : wpY_range K (nI n, ye, yp, yw, lw, hg, va, ce, kd, yf, ys, yt) p0 p1 p2 := by
  unfold wpY_range
  exact gu_isv (fun a => br_f (by decide) (gu_wi (-100) 100 (by decide) (by decide) (fun b => br_f (by decide) (gu_wi (-100) 100 (by decide) (by decide) (fun c => br_f (by decide) (br_c (fun d => ⟨a, nm_e ⟨a, nm_e (h1 ⟨a, b, c, d⟩)⟩⟩) (fun d => h0 fun q => d q.2.2.2))) (fun c => br_t rfl (h0 fun q => c q.2.2.1)))) (fun b => br_t rfl (h0 fun q => b q.2.1)))) (fun a => br_t rfl (h0 fun q => a q.1))
theorem gu_xset {K : Int32 → SX → Prop} {p0 p1 : Int32} (h1 : (gu_IO p0 ∧ gu_RR p1) → K (ce p0.toNatClampNeg) (nI n, fe, fp, fc, fk, fm, lw, hg, op, fi, se, th, upd ce p0.toNatClampNeg p1, va, re, le, mo, wi, ft, ns, lo, hi)) (h0 : ¬ (gu_IO p0 ∧ gu_RR p1) → K (-1) (nI n, fe, fp, fc, fk, fm, lw, hg, op, fi, se, th, ce, va, re, le, mo, wi, ft, ns, lo, hi)) : wpX_setCell K (nI n, fe, fp, fc, fk, fm, lw, hg, op, fi, se, th, ce, va, re, le, mo, wi, ft, ns, lo, hi) p0 p1 := by
  unfold wpX_setCell
  exact gu_lt _ _ rfl gu_t0 (fun h => h0 fun q => by have := q.1.1; omega) (fun h => gu_lt _ _ gu_t7 rfl (fun h2 => h0 fun q => by have := q.1.2; omega) (fun h2 => gu_bnum (fun c => br_t rfl ⟨gu_vio ⟨h, h2⟩, nm_e ⟨gu_vio ⟨h, h2⟩, nm_e (h1 ⟨⟨h, h2⟩, c⟩)⟩⟩) (fun c => br_f (by decide) (h0 fun q => c q.2))))
theorem gu_yset {K : Int32 → SY → Prop} {p0 p1 : Int32} (h1 : (gu_IO p0 ∧ gu_RR p1) → K (ce p0.toNatClampNeg) (nI n, ye, yp, yw, lw, hg, va, upd ce p0.toNatClampNeg p1, kd, yf, ys, yt)) (h0 : ¬ (gu_IO p0 ∧ gu_RR p1) → K (-1) (nI n, ye, yp, yw, lw, hg, va, ce, kd, yf, ys, yt)) : wpY_setCell K (nI n, ye, yp, yw, lw, hg, va, ce, kd, yf, ys, yt) p0 p1 := by
  unfold wpY_setCell
  exact gu_wi 0 7 (by decide) (by decide) (fun a => br_f (by decide) (gu_wi (-100) 100 (by decide) (by decide) (fun c => br_f (by decide) ⟨gu_vio a, nm_e ⟨gu_vio a, nm_e (h1 ⟨a, c⟩)⟩⟩) (fun c => br_t rfl (h0 fun q => c q.2)))) (fun a => br_t rfl (h0 fun q => a q.1))
theorem gu_xcell {K : Int32 → Prop} {p0 : Int32} (h1 : gu_IO p0 → K (ce p0.toNatClampNeg)) (h0 : ¬ gu_IO p0 → K 0) : wpX_cell K (nI n, fe, fp, fc, fk, fm, lw, hg, op, fi, se, th, ce, va, re, le, mo, wi, ft, ns, lo, hi) p0 := by
  unfold wpX_cell
  exact gu_rng 0 7 (by decide) (by decide) (fun h => ⟨gu_vio h, h1 h⟩) (fun h => h0 h)
theorem gu_ycell {K : Int32 → Prop} {p0 : Int32} (h1 : gu_IO p0 → K (ce p0.toNatClampNeg)) (h0 : ¬ gu_IO p0 → K 0) : wpY_cell K (nI n, ye, yp, yw, lw, hg, va, ce, kd, yf, ys, yt) p0 := by
  unfold wpY_cell
  exact gu_wi 0 7 (by decide) (by decide) (fun h => br_f (by decide) ⟨gu_vio h, h1 h⟩) (fun h => br_t rfl (h0 h))
theorem gu_xvar {K : Int32 → Prop} {p0 : Int32} (h1 : vp_in p0 4 → K (va p0.toNatClampNeg)) (h0 : ¬ vp_in p0 4 → K 0) : wpX_variable K (nI n, fe, fp, fc, fk, fm, lw, hg, op, fi, se, th, ce, va, re, le, mo, wi, ft, ns, lo, hi) p0 := by
  unfold wpX_variable
  exact gu_bad (fun h => br_t rfl ⟨h, h1 h⟩) (fun h => br_f (by decide) (h0 h))
theorem gu_yvar {K : Int32 → Prop} {p0 : Int32} (h1 : vp_in p0 4 → K (va p0.toNatClampNeg)) (h0 : ¬ vp_in p0 4 → K 0) : wpY_variable K (nI n, ye, yp, yw, lw, hg, va, ce, kd, yf, ys, yt) p0 := by
  unfold wpY_variable
  exact gu_isv (fun h => br_f (by decide) ⟨h, h1 h⟩) (fun h => br_t rfl (h0 h))
/-! digest -/
theorem gu_dig30 : ∀ d j, j + d = 8 → ∀ s : Int32, ∃ r : Int32, (∀ post : Int32 → Prop, post r → wX_digest_30 post (nI n) fe fp fc fk fm lw hg op fi se th ce va re le mo wi ft ns lo hi (d + 1) s (nI j)) ∧ (∀ post : Int32 → Prop, post r → wY_digest_30 post (nI n) ye yp yw lw hg va ce kd yf ys yt (d + 1) s (nI j)) := by
  intro d
  induction d with
  | zero =>
    intro j hj s
    have e : j = 8 := by omega
    subst e
    have t : (8 : Int32) ≤ nI 8 := nI_le (a := 8) (Nat.le_refl _) (by decide)
    exact ⟨s, fun post H => br_t t H, fun post H => br_t t H⟩
  | succ d ih =>
    intro j hj s
    have t : ¬ (8 : Int32) ≤ nI j := nI_ge (b := 8) (by omega) (by decide)
    have v : vp_in (nI j) 8 := vp_in_nI (by omega) (by omega)
    obtain ⟨r, hX, hY⟩ := ih (j + 1) (by omega) (s + (nI j + 5) * ce (nI j).toNatClampNeg)
    exact ⟨r, fun post H => br_f t ⟨v, nm_e (nm_r (nI_1 j) (hX post H))⟩, fun post H => br_f t ⟨v, nm_e (nm_r (nI_1 j) (hY post H))⟩⟩
theorem gu_dig4 : ∀ d j, j + d = 4 → ∀ s : Int32, ∃ r : Int32, (∀ post : Int32 → Prop, post r → wX_digest_4 post (nI n) fe fp fc fk fm lw hg op fi se th ce va re le mo wi ft ns lo hi (d + 1) s (nI j)) ∧ (∀ post : Int32 → Prop, post r → wY_digest_4 post (nI n) ye yp yw lw hg va ce kd yf ys yt (d + 1) s (nI j)) := by
  intro d
  induction d with
  | zero =>
    intro j hj s
    have e : j = 4 := by omega
    subst e
    obtain ⟨r, hX, hY⟩ := gu_dig30 (n := n) (fe := fe) (fp := fp) (fc := fc) (fk := fk) (fm := fm) (lw := lw) (hg := hg) (op := op) (fi := fi) (se := se) (th := th) (ce := ce) (va := va) (re := re) (le := le) (mo := mo) (wi := wi) (ft := ft) (ns := ns) (lo := lo) (hi := hi) (ye := ye) (yp := yp) (yw := yw) (kd := kd) (yf := yf) (ys := ys) (yt := yt) 8 0 rfl s
    exact ⟨r, fun post H => br_t (gu_y4 rfl) ⟨9, hX post H⟩, fun post H => br_t (gu_y4 rfl) ⟨9, hY post H⟩⟩
  | succ d ih =>
    intro j hj s
    have v : vp_in (nI j) 4 := vp_in_nI (by omega) (by omega)
    obtain ⟨r, hX, hY⟩ := ih (j + 1) (by omega) (s + (nI j + 1) * va (nI j).toNatClampNeg)
    exact ⟨r, fun post H => br_f (gu_n4 (by omega)) ⟨v, nm_e (nm_r (nI_1 j) (hX post H))⟩, fun post H => br_f (gu_n4 (by omega)) ⟨v, nm_e (nm_r (nI_1 j) (hY post H))⟩⟩
/-! the constructors -/
theorem gu_initX {post : SX → Prop} (H : post (nI n, fe, (-1), fc, fk, fm, gu_gl 0 4 lw (fun _ => -100), gu_gl 0 4 hg (fun _ => 100), op, fi, se, th, ce, va, re, le, mo, wi, ft, ns, lo, hi)) : ∀ d j, j + d = 4 → wX_init_129 post (nI n) fe fp fc fk fm (d + 1) (nI j) (gu_gl 0 j lw (fun _ => -100)) (gu_gl 0 j hg (fun _ => 100)) op fi se th ce va re le mo wi ft ns lo hi := by
  intro d
  induction d with
  | zero =>
    intro j hj
    have e : j = 4 := by omega
    subst e
    exact br_t (gu_y4 rfl) H
  | succ d ih =>
    intro j hj
    have c1 : (nI j).toNatClampNeg = j := nI_clamp (by omega)
    have v1 : vp_in (nI j) 4 := vp_in_nI (by omega) (by omega)
    have g1 := gu_gls 0 j lw (fun _ => -100)
    have g2 := gu_gls 0 j hg (fun _ => 100)
    rw [Nat.zero_add] at g1 g2
    exact br_f (gu_n4 (by omega)) ⟨v1, nm_r (e' := gu_gl 0 (j + 1) lw (fun _ => -100)) (by rw [c1]; exact g1) ⟨v1, nm_r (e' := gu_gl 0 (j + 1) hg (fun _ => 100)) (by rw [c1]; exact g2) (nm_r (nI_1 j) (ih (j + 1) (by omega)))⟩⟩
theorem gu_initY {post : SY → Prop} (H : post (nI n, ye, (-1), yw, gu_gl 0 4 lw (fun _ => -100), gu_gl 0 4 hg (fun _ => 100), va, ce, kd, yf, ys, yt)) : ∀ d j, j + d = 4 → wY_init_67 post (nI n) ye yp yw (d + 1) (nI j) (gu_gl 0 j lw (fun _ => -100)) (gu_gl 0 j hg (fun _ => 100)) va ce kd yf ys yt := by
  intro d
  induction d with
  | zero =>
    intro j hj
    have e : j = 4 := by omega
    subst e
    exact br_t (gu_y4 rfl) H
  | succ d ih =>
    intro j hj
    have c1 : (nI j).toNatClampNeg = j := nI_clamp (by omega)
    have v1 : vp_in (nI j) 4 := vp_in_nI (by omega) (by omega)
    have g1 := gu_gls 0 j lw (fun _ => -100)
    have g2 := gu_gls 0 j hg (fun _ => 100)
    rw [Nat.zero_add] at g1 g2
    exact br_f (gu_n4 (by omega)) ⟨v1, nm_r (e' := gu_gl 0 (j + 1) lw (fun _ => -100)) (by rw [c1]; exact g1) ⟨v1, nm_r (e' := gu_gl 0 (j + 1) hg (fun _ => 100)) (by rw [c1]; exact g2) (nm_r (nI_1 j) (ih (j + 1) (by omega)))⟩⟩
end RgSmall
end
section
section RgOwed
def gu_RL (n : Nat) (fk : Int32) (lw hg op fi se th ce re le mo ft ns kd yf ys yt : Nat → Int32) : Prop :=
  n ≤ 14 ∧ gu_BN lw hg ∧ (∀ j, gu_PW (op j) (fi j) (se j) (th j) (kd j) (yf j) (ys j) (yt j)) ∧ (∀ j, gu_RR (ce j)) ∧ (fk = 0 ∨ (fk = 1 ∧ gu_KN n lw hg op fi se th re le mo ft ns))
/-- the two states agree in ranges, program, variables, cells and answers; and if the program has been followed, what was found is right -/
def i_Rel (_ : Nat) (u : SX) (v : SY) : Prop := match u, v with
  | (sz, fe, fp, fc, fk, _, lw, hg, op, fi, se, th, ce, va, re, le, mo, _, ft, ns, _, _), (zy, ye, yp, yw, ylw, yhg, yva, yce, kd, yf, ys, yt) =>
    ∃ n : Nat, sz = nI n ∧ zy = nI n ∧ ye = fe ∧ yp = fp ∧ yw = fc ∧ ylw = lw ∧ yhg = hg ∧ yva = va ∧ yce = ce ∧ gu_RL n fk lw hg op fi se th ce re le mo ft ns kd yf ys yt
theorem gu_el {P : SX → SY → Prop} (h : ∀ (n : Nat) (fe fp fc fk fm : Int32) (lw hg op fi se th ce va re le mo wi ft ns lo hi kd yf ys yt : Nat → Int32), gu_RL n fk lw hg op fi se th ce re le mo ft ns kd yf ys yt → P (nI n, fe, fp, fc, fk, fm, lw, hg, op, fi, se, th, ce, va, re, le, mo, wi, ft, ns, lo, hi) (nI n, fe, fp, fc, lw, hg, va, ce, kd, yf, ys, yt))
    {k : Nat} {u : SX} {v : SY} (I : i_Rel k u v) : P u v := by
  obtain ⟨sz, fe, fp, fc, fk, fm, lw, hg, op, fi, se, th, ce, va, re, le, mo, wi, ft, ns, lo, hi⟩ := u
  obtain ⟨zy, ye, yp, yw, ylw, yhg, yva, yce, kd, yf, ys, yt⟩ := v
  obtain ⟨n, e1, e2, e3, e4, e5, e6, e7, e8, e9, R⟩ := I
  subst e1 e2 e3 e4 e5 e6 e7 e8 e9
  exact h n _ _ _ fk fm _ _ op fi se th _ _ re le mo wi ft ns lo hi kd yf ys yt R
theorem gu_mk {k n : Nat} {fe fp fc fk fm : Int32} {lw hg op fi se th ce va re le mo wi ft ns lo hi kd yf ys yt : Nat → Int32} (R : gu_RL n fk lw hg op fi se th ce re le mo ft ns kd yf ys yt) : i_Rel k (nI n, fe, fp, fc, fk, fm, lw, hg, op, fi, se, th, ce, va, re, le, mo, wi, ft, ns, lo, hi) (nI n, fe, fp, fc, lw, hg, va, ce, kd, yf, ys, yt) :=
  ⟨n, rfl, rfl, rfl, rfl, rfl, rfl, rfl, rfl, rfl, R⟩
theorem gu_rlA {n : Nat} {fk : Int32} {lw hg op fi se th ce re le mo ft ns kd yf ys yt : Nat → Int32} {o f s t k a b c : Int32} (R : gu_RL n fk lw hg op fi se th ce re le mo ft ns kd yf ys yt) (hn : n < 14) (W : gu_PW o f s t k a b c) :
    gu_RL (n + 1) 0 lw hg (upd op n o) (upd fi n f) (upd se n s) (upd th n t) ce re le mo ft ns (upd kd n k) (upd yf n a) (upd ys n b) (upd yt n c) := by
  obtain ⟨r1, r2, r3, r4, r5⟩ := R
  refine ⟨by omega, r2, fun j => ?_, r4, Or.inl rfl⟩
  by_cases e : j = n
  · rw [e, gu_us, gu_us, gu_us, gu_us, gu_us, gu_us, gu_us, gu_us]
    exact W
  · rw [gu_un e, gu_un e, gu_un e, gu_un e, gu_un e, gu_un e, gu_un e, gu_un e]
    exact r3 j
theorem gu_rr0 : gu_RR 0 := ⟨by decide, by decide⟩
theorem i_up {k : Nat} {u : SX} {v : SY} (h : i_Rel k u v) : i_Rel (k + 4) u v := h
theorem i_vc0 : wpX_init (fun u => wpY_init (fun v => i_Rel 0 u v)) := by
  have g1 : ∀ x, gu_gl 0 4 (fun _ => 0) (fun _ => -100) x = -100 ∨ gu_gl 0 4 (fun _ => 0) (fun _ => -100) x = 0 := fun x => by
    unfold gu_gl
    by_cases h : 0 ≤ x ∧ x < 0 + 4
    · rw [if_pos h]; exact Or.inl rfl
    · rw [if_neg h]; exact Or.inr rfl
  have g2 : ∀ x, gu_gl 0 4 (fun _ => 0) (fun _ => 100) x = 100 ∨ gu_gl 0 4 (fun _ => 0) (fun _ => 100) x = 0 := fun x => by
    unfold gu_gl
    by_cases h : 0 ≤ x ∧ x < 0 + 4
    · rw [if_pos h]; exact Or.inl rfl
    · rw [if_neg h]; exact Or.inr rfl
  have B : gu_BN (gu_gl 0 4 (fun _ => 0) (fun _ => -100)) (gu_gl 0 4 (fun _ => 0) (fun _ => 100)) := fun x => by
    have t0 := gu_t0
    have tM := gu_tM
    have tH := gu_tH
    rcases g1 x with e | e <;> rcases g2 x with e2 | e2 <;> rw [e, e2] <;> omega
  have R : gu_RL 0 0 (gu_gl 0 4 (fun _ => 0) (fun _ => -100)) (gu_gl 0 4 (fun _ => 0) (fun _ => 100)) (fun _ => 0) (fun _ => 0) (fun _ => 0) (fun _ => 0) (fun _ => 0) (fun _ => 0) (fun _ => 0) (fun _ => 0) (fun _ => 0) (fun _ => 0) (fun _ => 0) (fun _ => 0) (fun _ => 0) (fun _ => 0) := by
    refine ⟨by omega, B, fun j => ⟨gu_v04, gu_v04, Or.inl ⟨rfl, rfl, ?_, rfl, rfl⟩⟩, fun j => ?_, Or.inl rfl⟩
    · exact gu_rr0
    · exact gu_rr0
  have kX := gu_initX (post := fun u => wpY_init (fun v => i_Rel 0 u v)) (n := 0) (fe := 0) (fp := 0) (fc := 0) (fk := 0) (fm := 0) (lw := fun _ => 0) (hg := fun _ => 0) (op := fun _ => 0) (fi := fun _ => 0) (se := fun _ => 0) (th := fun _ => 0) (ce := fun _ => 0) (va := fun _ => 0) (re := fun _ => 0) (le := fun _ => 0) (mo := fun _ => 0) (wi := fun _ => 0) (ft := fun _ => 0) (ns := fun _ => 0) (lo := fun _ => 0) (hi := fun _ => 0) ?_ 4 0 rfl
  · rw [gu_gl0, gu_gl0] at kX
    exact ⟨5, kX⟩
  · have kY := gu_initY (post := fun v => i_Rel 0 (nI 0, 0, -1, 0, 0, 0, gu_gl 0 4 (fun _ => 0) (fun _ => -100), gu_gl 0 4 (fun _ => 0) (fun _ => 100), (fun _ => 0), (fun _ => 0), (fun _ => 0), (fun _ => 0), (fun _ => 0), (fun _ => 0), (fun _ => 0), (fun _ => 0), (fun _ => 0), (fun _ => 0), (fun _ => 0), (fun _ => 0), (fun _ => 0), (fun _ => 0)) v) (n := 0) (ye := 0) (yp := 0) (yw := 0) (lw := fun _ => 0) (hg := fun _ => 0) (va := fun _ => 0) (ce := fun _ => 0) (kd := fun _ => 0) (yf := fun _ => 0) (ys := fun _ => 0) (yt := fun _ => 0) (gu_mk R) 4 0 rfl
    rw [gu_gl0, gu_gl0] at kY
    exact ⟨5, kY⟩
theorem i_vc_constant {k : Nat} {u : SX} {v : SY} (I : i_Rel k u v) (hk : k + 4 ≤ 2048) (v1 : Int32) (v2 : Int32) : wpX_constant (fun r u' => wpY_constant (fun r' v' => r' = r ∧ i_Rel (k + 4) u' v') v v1 v2) u v1 v2 := by
  refine gu_el (P := fun u v => wpX_constant (fun r u' => wpY_constant (fun r' v' => r' = r ∧ i_Rel (k + 4) u' v') v v1 v2) u v1 v2) ?_ I
  intro n fe fp fc fk fm lw hg op fi se th ce va re le mo wi ft ns lo hi kd yf ys yt R
  have hn := R.1
  refine gu_xconstant hn (fun e q => gu_yconstant hn (fun _ _ => ⟨rfl, gu_mk R⟩) (fun z _ => absurd e (Nat.ne_of_lt z)) (fun z => absurd q z)) (fun l q => gu_yconstant hn (fun z _ => absurd z (Nat.ne_of_lt l)) (fun _ _ => ⟨rfl, gu_mk (gu_rlA R l ?_)⟩) (fun z => absurd q z)) (fun q => gu_yconstant hn (fun _ z => absurd z q) (fun _ z => absurd z q) (fun _ => ⟨rfl, gu_mk R⟩))
  exact ⟨q.1, gu_v04, Or.inl ⟨rfl, rfl, q.2, rfl, rfl⟩⟩
theorem i_vc_plus {k : Nat} {u : SX} {v : SY} (I : i_Rel k u v) (hk : k + 4 ≤ 2048) (v1 : Int32) (v2 : Int32) (v3 : Int32) : wpX_plus (fun r u' => wpY_plus (fun r' v' => r' = r ∧ i_Rel (k + 4) u' v') v v1 v2 v3) u v1 v2 v3 := by
  refine gu_el (P := fun u v => wpX_plus (fun r u' => wpY_plus (fun r' v' => r' = r ∧ i_Rel (k + 4) u' v') v v1 v2 v3) u v1 v2 v3) ?_ I
  intro n fe fp fc fk fm lw hg op fi se th ce va re le mo wi ft ns lo hi kd yf ys yt R
  have hn := R.1
  refine gu_xplus hn (fun e q => gu_yplus hn (fun _ _ => ⟨rfl, gu_mk R⟩) (fun z _ => absurd e (Nat.ne_of_lt z)) (fun z => absurd q z)) (fun l q => gu_yplus hn (fun z _ => absurd z (Nat.ne_of_lt l)) (fun _ _ => ⟨rfl, gu_mk (gu_rlA R l ?_)⟩) (fun z => absurd q z)) (fun q => gu_yplus hn (fun _ z => absurd z q) (fun _ z => absurd z q) (fun _ => ⟨rfl, gu_mk R⟩))
  exact ⟨q.1, q.2.1, Or.inr (Or.inl ⟨rfl, rfl, q.2.2, rfl, rfl, rfl⟩)⟩
theorem i_vc_sum {k : Nat} {u : SX} {v : SY} (I : i_Rel k u v) (hk : k + 4 ≤ 2048) (v1 : Int32) (v2 : Int32) (v3 : Int32) : wpX_sum (fun r u' => wpY_sum (fun r' v' => r' = r ∧ i_Rel (k + 4) u' v') v v1 v2 v3) u v1 v2 v3 := by
  refine gu_el (P := fun u v => wpX_sum (fun r u' => wpY_sum (fun r' v' => r' = r ∧ i_Rel (k + 4) u' v') v v1 v2 v3) u v1 v2 v3) ?_ I
  intro n fe fp fc fk fm lw hg op fi se th ce va re le mo wi ft ns lo hi kd yf ys yt R
  have hn := R.1
  refine gu_xsum hn (fun e q => gu_ysum hn (fun _ _ => ⟨rfl, gu_mk R⟩) (fun z _ => absurd e (Nat.ne_of_lt z)) (fun z => absurd q z)) (fun l q => gu_ysum hn (fun z _ => absurd z (Nat.ne_of_lt l)) (fun _ _ => ⟨rfl, gu_mk (gu_rlA R l ?_)⟩) (fun z => absurd q z)) (fun q => gu_ysum hn (fun _ z => absurd z q) (fun _ z => absurd z q) (fun _ => ⟨rfl, gu_mk R⟩))
  exact ⟨q.1, q.2.1, Or.inr (Or.inr (Or.inl ⟨rfl, rfl, q.2.2, rfl, rfl, rfl⟩))⟩
theorem i_vc_mask {k : Nat} {u : SX} {v : SY} (I : i_Rel k u v) (hk : k + 4 ≤ 2048) (v1 : Int32) (v2 : Int32) (v3 : Int32) : wpX_mask (fun r u' => wpY_mask (fun r' v' => r' = r ∧ i_Rel (k + 4) u' v') v v1 v2 v3) u v1 v2 v3 := by
  refine gu_el (P := fun u v => wpX_mask (fun r u' => wpY_mask (fun r' v' => r' = r ∧ i_Rel (k + 4) u' v') v v1 v2 v3) u v1 v2 v3) ?_ I
  intro n fe fp fc fk fm lw hg op fi se th ce va re le mo wi ft ns lo hi kd yf ys yt R
  have hn := R.1
  refine gu_xmask hn (fun e q => gu_ymask hn (fun _ _ => ⟨rfl, gu_mk R⟩) (fun z _ => absurd e (Nat.ne_of_lt z)) (fun z => absurd q z)) (fun l q => gu_ymask hn (fun z _ => absurd z (Nat.ne_of_lt l)) (fun _ _ => ⟨rfl, gu_mk (gu_rlA R l ?_)⟩) (fun z => absurd q z)) (fun q => gu_ymask hn (fun _ z => absurd z q) (fun _ z => absurd z q) (fun _ => ⟨rfl, gu_mk R⟩))
  exact ⟨q.1, q.2.1, Or.inr (Or.inr (Or.inr (Or.inl ⟨rfl, rfl, q.2.2, rfl, rfl, rfl⟩)))⟩
theorem i_vc_load {k : Nat} {u : SX} {v : SY} (I : i_Rel k u v) (hk : k + 4 ≤ 2048) (v1 : Int32) (v2 : Int32) (v3 : Int32) : wpX_load (fun r u' => wpY_load (fun r' v' => r' = r ∧ i_Rel (k + 4) u' v') v v1 v2 v3) u v1 v2 v3 := by
  refine gu_el (P := fun u v => wpX_load (fun r u' => wpY_load (fun r' v' => r' = r ∧ i_Rel (k + 4) u' v') v v1 v2 v3) u v1 v2 v3) ?_ I
  intro n fe fp fc fk fm lw hg op fi se th ce va re le mo wi ft ns lo hi kd yf ys yt R
  have hn := R.1
  refine gu_xload hn (fun e q => gu_yload hn (fun _ _ => ⟨rfl, gu_mk R⟩) (fun z _ => absurd e (Nat.ne_of_lt z)) (fun z => absurd q z)) (fun l q => gu_yload hn (fun z _ => absurd z (Nat.ne_of_lt l)) (fun _ _ => ⟨rfl, gu_mk (gu_rlA R l ?_)⟩) (fun z => absurd q z)) (fun q => gu_yload hn (fun _ z => absurd z q) (fun _ z => absurd z q) (fun _ => ⟨rfl, gu_mk R⟩))
  exact ⟨q.1, q.2.1, Or.inr (Or.inr (Or.inr (Or.inr (Or.inl ⟨rfl, rfl, q.2.2, rfl, rfl, rfl⟩))))⟩
theorem i_vc_store {k : Nat} {u : SX} {v : SY} (I : i_Rel k u v) (hk : k + 4 ≤ 2048) (v1 : Int32) (v2 : Int32) (v3 : Int32) : wpX_store (fun r u' => wpY_store (fun r' v' => r' = r ∧ i_Rel (k + 4) u' v') v v1 v2 v3) u v1 v2 v3 := by
  refine gu_el (P := fun u v => wpX_store (fun r u' => wpY_store (fun r' v' => r' = r ∧ i_Rel (k + 4) u' v') v v1 v2 v3) u v1 v2 v3) ?_ I
  intro n fe fp fc fk fm lw hg op fi se th ce va re le mo wi ft ns lo hi kd yf ys yt R
  have hn := R.1
  refine gu_xstore hn (fun e q => gu_ystore hn (fun _ _ => ⟨rfl, gu_mk R⟩) (fun z _ => absurd e (Nat.ne_of_lt z)) (fun z => absurd q z)) (fun l q => gu_ystore hn (fun z _ => absurd z (Nat.ne_of_lt l)) (fun _ _ => ⟨rfl, gu_mk (gu_rlA R l ?_)⟩) (fun z => absurd q z)) (fun q => gu_ystore hn (fun _ z => absurd z q) (fun _ z => absurd z q) (fun _ => ⟨rfl, gu_mk R⟩))
  exact ⟨q.1, q.2.1, Or.inr (Or.inr (Or.inr (Or.inr (Or.inr (Or.inl ⟨rfl, rfl, q.2.2, rfl, rfl, rfl⟩)))))⟩
theorem i_vc_less {k : Nat} {u : SX} {v : SY} (I : i_Rel k u v) (hk : k + 4 ≤ 2048) (v1 : Int32) (v2 : Int32) (v3 : Int32) : wpX_less (fun r u' => wpY_less (fun r' v' => r' = r ∧ i_Rel (k + 4) u' v') v v1 v2 v3) u v1 v2 v3 := by
  refine gu_el (P := fun u v => wpX_less (fun r u' => wpY_less (fun r' v' => r' = r ∧ i_Rel (k + 4) u' v') v v1 v2 v3) u v1 v2 v3) ?_ I
  intro n fe fp fc fk fm lw hg op fi se th ce va re le mo wi ft ns lo hi kd yf ys yt R
  have hn := R.1
  refine gu_xless hn (fun e q => gu_yless hn (fun _ _ => ⟨rfl, gu_mk R⟩) (fun z _ => absurd e (Nat.ne_of_lt z)) (fun z => absurd q z)) (fun l q => gu_yless hn (fun z _ => absurd z (Nat.ne_of_lt l)) (fun _ _ => ⟨rfl, gu_mk (gu_rlA R l ?_)⟩) (fun z => absurd q z)) (fun q => gu_yless hn (fun _ z => absurd z q) (fun _ z => absurd z q) (fun _ => ⟨rfl, gu_mk R⟩))
  exact ⟨q.1, q.2.1, Or.inr (Or.inr (Or.inr (Or.inr (Or.inr (Or.inr (Or.inl ⟨rfl, rfl, gu_v15 q.2.2, rfl, rfl, rfl⟩))))))⟩
theorem i_vc_jump {k : Nat} {u : SX} {v : SY} (I : i_Rel k u v) (hk : k + 4 ≤ 2048) (v1 : Int32) : wpX_jump (fun r u' => wpY_jump (fun r' v' => r' = r ∧ i_Rel (k + 4) u' v') v v1) u v1 := by
  refine gu_el (P := fun u v => wpX_jump (fun r u' => wpY_jump (fun r' v' => r' = r ∧ i_Rel (k + 4) u' v') v v1) u v1) ?_ I
  intro n fe fp fc fk fm lw hg op fi se th ce va re le mo wi ft ns lo hi kd yf ys yt R
  have hn := R.1
  refine gu_xjump hn (fun e q => gu_yjump hn (fun _ _ => ⟨rfl, gu_mk R⟩) (fun z _ => absurd e (Nat.ne_of_lt z)) (fun z => absurd q z)) (fun l q => gu_yjump hn (fun z _ => absurd z (Nat.ne_of_lt l)) (fun _ _ => ⟨rfl, gu_mk (gu_rlA R l ?_)⟩) (fun z => absurd q z)) (fun q => gu_yjump hn (fun _ z => absurd z q) (fun _ z => absurd z q) (fun _ => ⟨rfl, gu_mk R⟩))
  exact ⟨gu_v04, gu_v04, Or.inr (Or.inr (Or.inr (Or.inr (Or.inr (Or.inr (Or.inr (⟨rfl, rfl, gu_v15 q, rfl⟩)))))))⟩
theorem i_vc_range {k : Nat} {u : SX} {v : SY} (I : i_Rel k u v) (hk : k + 4 ≤ 2048) (v1 : Int32) (v2 : Int32) (v3 : Int32) : wpX_range (fun r u' => wpY_range (fun r' v' => r' = r ∧ i_Rel (k + 4) u' v') v v1 v2 v3) u v1 v2 v3 := by
  refine gu_el (P := fun u v => wpX_range (fun r u' => wpY_range (fun r' v' => r' = r ∧ i_Rel (k + 4) u' v') v v1 v2 v3) u v1 v2 v3) ?_ I
  intro n fe fp fc fk fm lw hg op fi se th ce va re le mo wi ft ns lo hi kd yf ys yt R
  refine gu_xrange (fun q => gu_yrange (fun _ => ⟨rfl, gu_mk ?_⟩) (fun z => absurd q z)) (fun q => gu_yrange (fun z => absurd z q) (fun _ => ⟨rfl, gu_mk R⟩))
  obtain ⟨r1, r2, r3, r4, r5⟩ := R
  obtain ⟨q1, q2, q3, q4⟩ := q
  refine ⟨r1, fun x => ?_, r3, r4, Or.inl rfl⟩
  by_cases e : x = v1.toNatClampNeg
  · rw [e, gu_us, gu_us]
    exact ⟨q2.1, Int32.le_iff_toInt_le.mp q4, q3.2⟩
  · rw [gu_un e, gu_un e]
    exact r2 x
theorem i_vc_size {k : Nat} {u : SX} {v : SY} (I : i_Rel k u v) (hk : k + 4 ≤ 2048) : wpX_size (fun r => wpY_size (fun r' => r' = r ∧ i_Rel (k + 4) u v) v) u := by
  refine gu_el (P := fun u v => wpX_size (fun r => wpY_size (fun r' => r' = r ∧ i_Rel (k + 4) u v) v) u) ?_ I
  intro n fe fp fc fk fm lw hg op fi se th ce va re le mo wi ft ns lo hi kd yf ys yt R
  exact ⟨rfl, gu_mk R⟩
theorem i_vc_clear {k : Nat} {u : SX} {v : SY} (I : i_Rel k u v) (hk : k + 4 ≤ 2048) : wpX_clear (fun u' => wpY_clear (fun v' => i_Rel (k + 4) u' v') v) u := by
  refine gu_el (P := fun u v => wpX_clear (fun u' => wpY_clear (fun v' => i_Rel (k + 4) u' v') v) u) ?_ I
  intro n fe fp fc fk fm lw hg op fi se th ce va re le mo wi ft ns lo hi kd yf ys yt R
  obtain ⟨r1, r2, r3, r4, r5⟩ := R
  have R' : gu_RL 0 0 lw hg op fi se th ce re le mo ft ns kd yf ys yt := ⟨by omega, r2, r3, r4, Or.inl rfl⟩
  have G : i_Rel (k + 4) (nI 0, fe, fp, fc, 0, fm, lw, hg, op, fi, se, th, ce, va, re, le, mo, wi, ft, ns, lo, hi) (nI 0, fe, fp, fc, lw, hg, va, ce, kd, yf, ys, yt) := gu_mk R'
  unfold wpX_clear wpY_clear
  exact G
theorem i_vc_setCell {k : Nat} {u : SX} {v : SY} (I : i_Rel k u v) (hk : k + 4 ≤ 2048) (v1 : Int32) (v2 : Int32) : wpX_setCell (fun r u' => wpY_setCell (fun r' v' => r' = r ∧ i_Rel (k + 4) u' v') v v1 v2) u v1 v2 := by
  refine gu_el (P := fun u v => wpX_setCell (fun r u' => wpY_setCell (fun r' v' => r' = r ∧ i_Rel (k + 4) u' v') v v1 v2) u v1 v2) ?_ I
  intro n fe fp fc fk fm lw hg op fi se th ce va re le mo wi ft ns lo hi kd yf ys yt R
  refine gu_xset (fun q => gu_yset (fun _ => ⟨rfl, gu_mk ?_⟩) (fun z => absurd q z)) (fun q => gu_yset (fun z => absurd z q) (fun _ => ⟨rfl, gu_mk R⟩))
  obtain ⟨r1, r2, r3, r4, r5⟩ := R
  refine ⟨r1, r2, r3, fun j => ?_, r5⟩
  by_cases e : j = v1.toNatClampNeg
  · rw [e, gu_us]
    exact q.2
  · rw [gu_un e]
    exact r4 j
theorem i_vc_cell {k : Nat} {u : SX} {v : SY} (I : i_Rel k u v) (hk : k + 4 ≤ 2048) (v1 : Int32) : wpX_cell (fun r => wpY_cell (fun r' => r' = r ∧ i_Rel (k + 4) u v) v v1) u v1 := by
  refine gu_el (P := fun u v => wpX_cell (fun r => wpY_cell (fun r' => r' = r ∧ i_Rel (k + 4) u v) v v1) u v1) ?_ I
  intro n fe fp fc fk fm lw hg op fi se th ce va re le mo wi ft ns lo hi kd yf ys yt R
  exact gu_xcell (fun q => gu_ycell (fun _ => ⟨rfl, gu_mk R⟩) (fun z => absurd q z)) (fun q => gu_ycell (fun z => absurd z q) (fun _ => ⟨rfl, gu_mk R⟩))
theorem i_vc_variable {k : Nat} {u : SX} {v : SY} (I : i_Rel k u v) (hk : k + 4 ≤ 2048) (v1 : Int32) : wpX_variable (fun r => wpY_variable (fun r' => r' = r ∧ i_Rel (k + 4) u v) v v1) u v1 := by
  refine gu_el (P := fun u v => wpX_variable (fun r => wpY_variable (fun r' => r' = r ∧ i_Rel (k + 4) u v) v v1) u v1) ?_ I
  intro n fe fp fc fk fm lw hg op fi se th ce va re le mo wi ft ns lo hi kd yf ys yt R
  exact gu_xvar (fun q => gu_yvar (fun _ => ⟨rfl, gu_mk R⟩) (fun z => absurd q z)) (fun q => gu_yvar (fun z => absurd z q) (fun _ => ⟨rfl, gu_mk R⟩))
theorem i_vc_run {k : Nat} {u : SX} {v : SY} (I : i_Rel k u v) (hk : k + 4 ≤ 2048) : wpX_run (fun r u' => wpY_run (fun r' v' => r' = r ∧ i_Rel (k + 4) u' v') v) u := by
  refine gu_el (P := fun u v => wpX_run (fun r u' => wpY_run (fun r' v' => r' = r ∧ i_Rel (k + 4) u' v') v) u) ?_ I
  intro n fe fp fc fk fm lw hg op fi se th ce va re le mo wi ft ns lo hi kd yf ys yt R
  obtain ⟨r1, r2, r3, r4, r5⟩ := R
  exact gu_run (Q := fun u' v' => i_Rel (k + 4) u' v') r1 r2 r3 r4 r5 (fun e pl c fm ce va re le mo wi ft ns lo hi C K => gu_mk ⟨r1, r2, r3, C, Or.inr ⟨rfl, K⟩⟩)
theorem i_vc_ending {k : Nat} {u : SX} {v : SY} (I : i_Rel k u v) (hk : k + 4 ≤ 2048) : wpX_ending (fun r => wpY_ending (fun r' => r' = r ∧ i_Rel (k + 4) u v) v) u := by
  refine gu_el (P := fun u v => wpX_ending (fun r => wpY_ending (fun r' => r' = r ∧ i_Rel (k + 4) u v) v) u) ?_ I
  intro n fe fp fc fk fm lw hg op fi se th ce va re le mo wi ft ns lo hi kd yf ys yt R
  exact ⟨rfl, gu_mk R⟩
theorem i_vc_place {k : Nat} {u : SX} {v : SY} (I : i_Rel k u v) (hk : k + 4 ≤ 2048) : wpX_place (fun r => wpY_place (fun r' => r' = r ∧ i_Rel (k + 4) u v) v) u := by
  refine gu_el (P := fun u v => wpX_place (fun r => wpY_place (fun r' => r' = r ∧ i_Rel (k + 4) u v) v) u) ?_ I
  intro n fe fp fc fk fm lw hg op fi se th ce va re le mo wi ft ns lo hi kd yf ys yt R
  exact ⟨rfl, gu_mk R⟩
theorem i_vc_worked {k : Nat} {u : SX} {v : SY} (I : i_Rel k u v) (hk : k + 4 ≤ 2048) : wpX_worked (fun r => wpY_worked (fun r' => r' = r ∧ i_Rel (k + 4) u v) v) u := by
  refine gu_el (P := fun u v => wpX_worked (fun r => wpY_worked (fun r' => r' = r ∧ i_Rel (k + 4) u v) v) u) ?_ I
  intro n fe fp fc fk fm lw hg op fi se th ce va re le mo wi ft ns lo hi kd yf ys yt R
  exact ⟨rfl, gu_mk R⟩
theorem i_vc_digest {k : Nat} {u : SX} {v : SY} (I : i_Rel k u v) (hk : k + 4 ≤ 2048) : wpX_digest (fun r => wpY_digest (fun r' => r' = r ∧ i_Rel (k + 4) u v) v) u := by
  refine gu_el (P := fun u v => wpX_digest (fun r => wpY_digest (fun r' => r' = r ∧ i_Rel (k + 4) u v) v) u) ?_ I
  intro n fe fp fc fk fm lw hg op fi se th ce va re le mo wi ft ns lo hi kd yf ys yt R
  obtain ⟨r, hX, hY⟩ := gu_dig4 (n := n) (fe := fe) (fp := fp) (fc := fc) (fk := fk) (fm := fm) (lw := lw) (hg := hg) (op := op) (fi := fi) (se := se) (th := th) (ce := ce) (va := va) (re := re) (le := le) (mo := mo) (wi := wi) (ft := ft) (ns := ns) (lo := lo) (hi := hi) (ye := fe) (yp := fp) (yw := fc) (kd := kd) (yf := yf) (ys := ys) (yt := yt) 4 0 rfl 0
  exact ⟨5, hX _ ⟨5, hY _ ⟨rfl, gu_mk R⟩⟩⟩
end RgOwed
end
