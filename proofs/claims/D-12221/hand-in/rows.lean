section
/-! ===== polynomials as naturals: xor, a bit times a word, multiples by a monomial ===== -/
/-- a bit times a word -/
def zq_b (p : Bool) (w : Nat) : Nat := if p then w else 0
theorem zq_b_t (w : Nat) : zq_b true w = w := rfl
theorem zq_b_f (w : Nat) : zq_b false w = 0 := rfl
theorem zq_x4 (a b c d : Nat) : (a ^^^ b) ^^^ (c ^^^ d) = (a ^^^ c) ^^^ (b ^^^ d) := by
  apply Nat.eq_of_testBit_eq
  intro i
  simp only [Nat.testBit_xor]
  cases a.testBit i <;> cases b.testBit i <;> cases c.testBit i <;> cases d.testBit i <;> rfl
theorem zq_xc (a b : Nat) : (a ^^^ b) ^^^ b = a := by rw [Nat.xor_assoc, Nat.xor_self, Nat.xor_zero]
theorem zq_xl (a b : Nat) : a ^^^ (a ^^^ b) = b := by rw [← Nat.xor_assoc, Nat.xor_self, Nat.zero_xor]
theorem zq_b_x (p q : Bool) (w : Nat) : zq_b (p ^^ q) w = zq_b p w ^^^ zq_b q w := by
  cases p <;> cases q <;> simp [zq_b]
theorem zq_b_lt {p : Bool} {w n : Nat} (h : p = true → w < 2 ^ n) : zq_b p w < 2 ^ n := by
  cases p
  · exact Nat.two_pow_pos n
  · exact h rfl
theorem zq_b_tb (p : Bool) (w i : Nat) : (zq_b p w).testBit i = (p && w.testBit i) := by
  cases p
  · simp [zq_b]
  · simp [zq_b]
theorem zq_2lt {a b : Nat} (h : a < b) : 2 ^ a < 2 ^ b := Nat.pow_lt_pow_right (by decide) h
theorem zq_2le {a b : Nat} (h : a ≤ b) : 2 ^ a ≤ 2 ^ b := Nat.pow_le_pow_right (by decide) h
theorem zq_tbf {f i n : Nat} (h : f < 2 ^ n) (hi : n ≤ i) : f.testBit i = false := Nat.testBit_lt_two_pow (Nat.lt_of_lt_of_le h (zq_2le hi))
theorem zq_tblt {f i n : Nat} (h : f < 2 ^ n) (hi : f.testBit i = true) : i < n := by
  rcases Nat.lt_or_ge i n with g | g
  · exact g
  · rw [zq_tbf h g] at hi
    cases hi
/-- the multiple of a polynomial by a monomial, over the monomials below k -/
def zq_tk (f c : Nat) : Nat → Nat
  | 0 => 0
  | k + 1 => zq_tk f c k ^^^ zq_b (f.testBit k) (2 ^ (k ||| c))
def zq_tm (f c : Nat) : Nat := zq_tk f c 16
theorem zq_tk_x (f g c k : Nat) : zq_tk (f ^^^ g) c k = zq_tk f c k ^^^ zq_tk g c k := by
  induction k with
  | zero => exact (Nat.xor_self 0).symm
  | succ k ih => rw [zq_tk, zq_tk, zq_tk, Nat.testBit_xor, ih, zq_b_x, zq_x4]
theorem zq_tm_x (f g c : Nat) : zq_tm (f ^^^ g) c = zq_tm f c ^^^ zq_tm g c := zq_tk_x f g c 16
theorem zq_tk_0 (c k : Nat) : zq_tk 0 c k = 0 := by
  induction k with
  | zero => rfl
  | succ k ih => rw [zq_tk, ih, Nat.zero_testBit, zq_b_f, Nat.xor_zero]
theorem zq_tm_0 (c : Nat) : zq_tm 0 c = 0 := zq_tk_0 c 16
theorem zq_tk_p (j c k : Nat) : zq_tk (2 ^ j) c k = zq_b (decide (j < k)) (2 ^ (j ||| c)) := by
  induction k with
  | zero => rfl
  | succ k ih =>
    rw [zq_tk, ih, Nat.testBit_two_pow]
    by_cases h : j = k
    · rw [decide_eq_true h, decide_eq_false (show ¬ j < k by omega), decide_eq_true (show j < k + 1 by omega), zq_b_f, zq_b_t, Nat.zero_xor, h, zq_b_t]
    · rw [decide_eq_false h, zq_b_f, Nat.xor_zero]
      by_cases g : j < k
      · rw [decide_eq_true g, decide_eq_true (show j < k + 1 by omega)]
      · rw [decide_eq_false g, decide_eq_false (show ¬ j < k + 1 by omega)]
theorem zq_tm_p {j : Nat} (c : Nat) (hj : j < 16) : zq_tm (2 ^ j) c = 2 ^ (j ||| c) := by
  rw [zq_tm, zq_tk_p, decide_eq_true hj, zq_b_t]
theorem zq_tm_b {j : Nat} (p : Bool) (c : Nat) (hj : j < 16) : zq_tm (zq_b p (2 ^ j)) c = zq_b p (2 ^ (j ||| c)) := by
  cases p
  · exact zq_tm_0 c
  · exact zq_tm_p c hj
theorem zq_or16 {a b : Nat} (ha : a < 16) (hb : b < 16) : a ||| b < 16 := Nat.or_lt_two_pow (n := 4) ha hb
theorem zq_tk_lt {f c B : Nat} : ∀ k, (∀ i, i < k → f.testBit i = true → i ||| c < B) → zq_tk f c k < 2 ^ B := by
  intro k
  induction k with
  | zero => exact fun _ => Nat.two_pow_pos B
  | succ k ih =>
    intro h
    rw [zq_tk]
    exact Nat.xor_lt_two_pow (ih (fun i hi => h i (by omega))) (zq_b_lt (fun e => zq_2lt (h k (by omega) e)))
theorem zq_tm_lt (f : Nat) {c : Nat} (hc : c < 16) : zq_tm f c < 2 ^ 16 := zq_tk_lt 16 (fun _ hi _ => zq_or16 hi hc)
theorem zq_modS (f k : Nat) : f % 2 ^ (k + 1) = f % 2 ^ k ^^^ zq_b (f.testBit k) (2 ^ k) := by
  apply Nat.eq_of_testBit_eq
  intro i
  rw [Nat.testBit_xor, Nat.testBit_mod_two_pow, Nat.testBit_mod_two_pow, zq_b_tb, Nat.testBit_two_pow]
  by_cases h : k = i
  · rw [h, decide_eq_true (show i < i + 1 by omega), decide_eq_false (show ¬ i < i by omega), decide_eq_true (rfl : i = i)]
    cases f.testBit i <;> rfl
  · rw [decide_eq_false h]
    by_cases g : i < k
    · rw [decide_eq_true g, decide_eq_true (show i < k + 1 by omega)]
      cases f.testBit i <;> cases f.testBit k <;> rfl
    · rw [decide_eq_false g, decide_eq_false (show ¬ i < k + 1 by omega)]
      cases f.testBit i <;> cases f.testBit k <;> rfl
theorem zq_tk_one (f k : Nat) : zq_tk f 0 k = f % 2 ^ k := by
  induction k with
  | zero => rw [zq_tk, Nat.pow_zero, Nat.mod_one]
  | succ k ih => rw [zq_tk, ih, Nat.or_zero, zq_modS]
theorem zq_tm_one {f : Nat} (h : f < 2 ^ 16) : zq_tm f 0 = f := by
  rw [zq_tm, zq_tk_one, Nat.mod_eq_of_lt h]
theorem zq_tk_c {c : Nat} (f d : Nat) (hc : c < 16) : ∀ k, k ≤ 16 → zq_tm (zq_tk f c k) d = zq_tk f (c ||| d) k := by
  intro k
  induction k with
  | zero => exact fun _ => zq_tm_0 d
  | succ k ih =>
    intro h
    rw [zq_tk, zq_tm_x, ih (by omega), zq_tm_b _ _ (zq_or16 (by omega) hc), zq_tk, Nat.or_assoc]
theorem zq_tm_c {c : Nat} (f d : Nat) (hc : c < 16) : zq_tm (zq_tm f c) d = zq_tm f (c ||| d) := zq_tk_c f d hc 16 (Nat.le_refl 16)
/-- h is the head of f -/
def zq_hd (f h : Nat) : Prop := f.testBit h = true ∧ f < 2 ^ (h + 1)
theorem zq_hd_p (h : Nat) : zq_hd (2 ^ h) h := ⟨Nat.testBit_two_pow_self, zq_2lt (Nat.lt_succ_self h)⟩
theorem zq_hd_x {f g h : Nat} (hf : zq_hd f h) (hg : zq_hd g h) : f ^^^ g < 2 ^ h := by
  apply Nat.lt_pow_two_of_testBit
  intro i hi
  rw [Nat.testBit_xor]
  by_cases e : i = h
  · rw [e, hf.1, hg.1]
    rfl
  · rw [zq_tbf hf.2 (by omega), zq_tbf hg.2 (by omega)]
    rfl
theorem zq_hd_y {f g h : Nat} (hf : zq_hd f h) (hg : g < 2 ^ h) : zq_hd (f ^^^ g) h := by
  refine ⟨?_, Nat.xor_lt_two_pow hf.2 (Nat.lt_of_lt_of_le hg (zq_2le (Nat.le_succ h)))⟩
  rw [Nat.testBit_xor, hf.1, zq_tbf hg (Nat.le_refl h)]
  rfl
theorem zq_hd_u {f h h' : Nat} (a : zq_hd f h) (b : zq_hd f h') : h = h' := by
  have x := zq_tblt a.2 b.1
  have y := zq_tblt b.2 a.1
  omega
theorem zq_hd_n {f h : Nat} (a : zq_hd f h) : f ≠ 0 := by
  intro e
  rw [e] at a
  exact absurd a.1 (by rw [Nat.zero_testBit]; exact Bool.false_ne_true)
theorem zq_hd_of : ∀ n f, f ≠ 0 → f < 2 ^ n → ∃ h, h < n ∧ zq_hd f h := by
  intro n
  induction n with
  | zero => exact fun f h0 h => absurd h (by rw [Nat.pow_zero]; omega)
  | succ n ih =>
    intro f h0 h
    by_cases e : f.testBit n = true
    · exact ⟨n, by omega, e, h⟩
    · have g : f < 2 ^ n := by
        apply Nat.lt_pow_two_of_testBit
        intro i hi
        by_cases e2 : i = n
        · rw [e2]
          exact Bool.eq_false_iff.mpr e
        · exact zq_tbf h (by omega)
      obtain ⟨j, hj, hh⟩ := ih f h0 g
      exact ⟨j, by omega, hh⟩
/-! small tables -/
theorem zq_d1 : ∀ k, k < 16 → ∀ h, h < 16 → ∀ c, c < 16 → c &&& h = 0 → k < h → k ||| c < h ||| c := by decide +kernel
theorem zq_d2 : ∀ c, c < 16 → ∀ h, h < 16 → c &&& h = 0 → c ||| h = c + h := by decide +kernel
theorem zq_d3 : ∀ c, c < 16 → ∀ h, h < 16 → c ||| h ≤ c + h := by decide +kernel
theorem zq_tm_hlt {f h c : Nat} (hf : f < 2 ^ h) (hh : h < 16) (hc : c < 16) (hd : c &&& h = 0) : zq_tm f c < 2 ^ (h ||| c) :=
  zq_tk_lt 16 (fun i hi e => zq_d1 i hi h hh c hc hd (zq_tblt hf e))
theorem zq_hd_tm {f h c : Nat} (hf : zq_hd f h) (hh : h < 16) (hc : c < 16) (hd : c &&& h = 0) : zq_hd (zq_tm f c) (h ||| c) := by
  have e : f = 2 ^ h ^^^ (2 ^ h ^^^ f) := (zq_xl _ _).symm
  have l : 2 ^ h ^^^ f < 2 ^ h := zq_hd_x (zq_hd_p h) hf
  rw [e, zq_tm_x, zq_tm_p c hh]
  exact zq_hd_y (zq_hd_p _) (zq_tm_hlt l hh hc hd)
/-- a square's difference lies below h + 2 ^ v -/
theorem zq_d4 : ∀ v, v < 4 → ∀ h, h < 16 → h.testBit v = true → ∀ i, i < 16 → i < h + 1 → i ||| 2 ^ v < h + 2 ^ v := by decide +kernel
theorem zq_tm_sq {f h v : Nat} (hf : f < 2 ^ (h + 1)) (hh : h < 16) (hv : v < 4) (ht : h.testBit v = true) : zq_tm f (2 ^ v) < 2 ^ (h + 2 ^ v) :=
  zq_tk_lt 16 (fun i hi e => zq_d4 v hv h hh ht i hi (zq_tblt hf e))
end
section
/-! ===== reduction from the greatest monomial down, by words be m with head m (or 0) ===== -/
def zq_rd (be : Nat → Nat) : Nat → Nat → Nat
  | 0, r => r
  | k + 1, r => zq_rd be k (r ^^^ zq_b (r.testBit k) (be k))
theorem zq_rd_x (be : Nat → Nat) : ∀ k f g, zq_rd be k (f ^^^ g) = zq_rd be k f ^^^ zq_rd be k g := by
  intro k
  induction k with
  | zero => exact fun f g => rfl
  | succ k ih =>
    intro f g
    rw [zq_rd, zq_rd, zq_rd, ← ih, Nat.testBit_xor, zq_b_x, zq_x4]
theorem zq_rd_0 (be : Nat → Nat) : ∀ k, zq_rd be k 0 = 0 := by
  intro k
  induction k with
  | zero => rfl
  | succ k ih => rw [zq_rd, Nat.zero_testBit, zq_b_f, Nat.xor_zero, ih]
/-- each word is 0 or has its place as head -/
def zq_ok (be : Nat → Nat) : Prop := ∀ m, m < 16 → be m = 0 ∨ zq_hd (be m) m
theorem zq_ok_lt {be : Nat → Nat} (ok : zq_ok be) {m : Nat} (hm : m < 16) : be m < 2 ^ (m + 1) := by
  rcases ok m hm with h | h
  · rw [h]
    exact Nat.two_pow_pos _
  · exact h.2
theorem zq_rd_be {be : Nat → Nat} (ok : zq_ok be) {m : Nat} : ∀ k, k ≤ 16 → m < k → zq_rd be k (be m) = 0 := by
  intro k
  induction k with
  | zero => exact fun _ h => absurd h (by omega)
  | succ k ih =>
    intro hk h
    rw [zq_rd]
    by_cases e : m = k
    · rcases ok m (by omega) with g | g
      · rw [g, Nat.zero_testBit, zq_b_f, Nat.xor_zero, zq_rd_0]
      · rw [← e, g.1, zq_b_t, Nat.xor_self, zq_rd_0]
    · rw [zq_tbf (zq_ok_lt ok (show m < 16 by omega)) (show m + 1 ≤ k by omega), zq_b_f, Nat.xor_zero]
      exact ih (by omega) (by omega)
theorem zq_rd_hi {be : Nat → Nat} (ok : zq_ok be) : ∀ k, k ≤ 16 → ∀ f i, k ≤ i → (zq_rd be k f).testBit i = f.testBit i := by
  intro k
  induction k with
  | zero => exact fun _ f i _ => rfl
  | succ k ih =>
    intro hk f i hi
    rw [zq_rd, ih (by omega) _ i (by omega), Nat.testBit_xor, zq_b_tb, zq_tbf (zq_ok_lt ok (show k < 16 by omega)) hi]
    simp
theorem zq_rd_clear {be : Nat → Nat} (ok : zq_ok be) : ∀ k, k ≤ 16 → ∀ f m, m < k → be m ≠ 0 → (zq_rd be k f).testBit m = false := by
  intro k
  induction k with
  | zero => exact fun _ f m h => absurd h (by omega)
  | succ k ih =>
    intro hk f m hm hb
    rw [zq_rd]
    by_cases e : m = k
    · rw [zq_rd_hi ok k (by omega) _ m (by omega), Nat.testBit_xor, zq_b_tb, e]
      rcases ok k (by omega) with g | g
      · exact absurd (e ▸ g) hb
      · rw [g.1]
        cases f.testBit k <;> rfl
    · exact ih (by omega) _ m (by omega) hb
theorem zq_rd_lt {be : Nat → Nat} (ok : zq_ok be) {n : Nat} : ∀ k, k ≤ 16 → ∀ f, f < 2 ^ n → zq_rd be k f < 2 ^ n := by
  intro k
  induction k with
  | zero => exact fun _ f h => h
  | succ k ih =>
    intro hk f h
    rw [zq_rd]
    refine ih (by omega) _ (Nat.xor_lt_two_pow h (zq_b_lt (fun e => ?_)))
    exact Nat.lt_of_lt_of_le (zq_ok_lt ok (show k < 16 by omega)) (zq_2le (zq_tblt h e))
theorem zq_rd_fix {be : Nat → Nat} : ∀ k f, (∀ m, m < k → f.testBit m = true → be m = 0) → zq_rd be k f = f := by
  intro k
  induction k with
  | zero => exact fun f _ => rfl
  | succ k ih =>
    intro f h
    have e : zq_b (f.testBit k) (be k) = 0 := by
      by_cases g : f.testBit k = true
      · rw [h k (by omega) g]
        cases f.testBit k <;> rfl
      · rw [Bool.eq_false_iff.mpr g]
        rfl
    rw [zq_rd, e, Nat.xor_zero]
    exact ih f (fun m hm => h m (by omega))
theorem zq_rd_idem {be : Nat → Nat} (ok : zq_ok be) (f : Nat) : zq_rd be 16 (zq_rd be 16 f) = zq_rd be 16 f := by
  apply zq_rd_fix
  intro m hm h
  rcases Nat.eq_zero_or_pos (be m) with e | e
  · exact e
  · rw [zq_rd_clear ok 16 (Nat.le_refl 16) f m hm (by omega)] at h
    cases h
theorem zq_rd_top {be : Nat → Nat} (ok : zq_ok be) {m f : Nat} (hf : zq_hd f m) (hb : be m = 0) : ∀ k, k ≤ 16 → m < k → (zq_rd be k f).testBit m = true := by
  intro k
  induction k with
  | zero => exact fun _ h => absurd h (by omega)
  | succ k ih =>
    intro hk h
    rw [zq_rd]
    by_cases e : m = k
    · rw [← e, hb, zq_rd_hi ok m (by omega) _ m (Nat.le_refl m)]
      have z : zq_b (f.testBit m) 0 = 0 := by cases f.testBit m <;> rfl
      rw [z, Nat.xor_zero]
      exact hf.1
    · rw [zq_tbf hf.2 (show m + 1 ≤ k by omega), zq_b_f, Nat.xor_zero]
      exact ih (by omega) (by omega)
/-! spans -/
def zq_sp (P : Nat → Prop) (f : Nat) : Prop := ∀ U : Nat → Prop, U 0 → (∀ a b, U a → U b → U (a ^^^ b)) → (∀ a, P a → U a) → U f
theorem zq_sp_0 {P : Nat → Prop} : zq_sp P 0 := fun _ h0 _ _ => h0
theorem zq_sp_x {P : Nat → Prop} {f g : Nat} (hf : zq_sp P f) (hg : zq_sp P g) : zq_sp P (f ^^^ g) := fun U h0 hx hp => hx f g (hf U h0 hx hp) (hg U h0 hx hp)
theorem zq_sp_i {P : Nat → Prop} {f : Nat} (h : P f) : zq_sp P f := fun _ _ _ hp => hp f h
theorem zq_sp_m {P Q : Nat → Prop} (h : ∀ a, P a → Q a) {f : Nat} (hf : zq_sp P f) : zq_sp Q f := fun U h0 hx hq => hf U h0 hx (fun a ha => hq a (h a ha))
theorem zq_rd_sp {be : Nat → Nat} (ok : zq_ok be) {n : Nat} {Q : Nat → Prop} (hQ : ∀ m, m < 16 → m < n → be m ≠ 0 → Q (be m)) : ∀ k, k ≤ 16 → ∀ f, f < 2 ^ n → zq_sp Q (f ^^^ zq_rd be k f) := by
  intro k
  induction k with
  | zero =>
    intro _ f _
    rw [zq_rd, Nat.xor_self]
    exact zq_sp_0
  | succ k ih =>
    intro hk f h
    rw [zq_rd]
    have hb : zq_b (f.testBit k) (be k) < 2 ^ n := zq_b_lt (fun e => Nat.lt_of_lt_of_le (zq_ok_lt ok (show k < 16 by omega)) (zq_2le (zq_tblt h e)))
    have i := ih (by omega) (f ^^^ zq_b (f.testBit k) (be k)) (Nat.xor_lt_two_pow h hb)
    have j : zq_sp Q (zq_b (f.testBit k) (be k)) := by
      by_cases e : f.testBit k = true
      · rw [e, zq_b_t]
        rcases Nat.eq_zero_or_pos (be k) with z | z
        · rw [z]
          exact zq_sp_0
        · exact zq_sp_i (hQ k (by omega) (zq_tblt h e) (by omega))
      · rw [Bool.eq_false_iff.mpr e]
        exact zq_sp_0
    have r := zq_sp_x j i
    generalize zq_rd be k (f ^^^ zq_b (f.testBit k) (be k)) = u at r ⊢
    generalize zq_b (f.testBit k) (be k) = w at r ⊢
    rw [show w ^^^ (f ^^^ w ^^^ u) = f ^^^ u by rw [Nat.xor_comm f w, Nat.xor_assoc w f u, zq_xl]] at r
    exact r
end
section
/-! ===== the first divisor, the words of the reduction, the criterion ===== -/
/-- the first of s heads that divides m; s when there is none -/
def zq_fd (H : Nat → Nat) (m : Nat) : Nat → Nat
  | 0 => 0
  | s + 1 => if zq_fd H m s < s then zq_fd H m s else if H s &&& m = H s then s else s + 1
theorem zq_fd_spec (H : Nat → Nat) (m : Nat) : ∀ s, zq_fd H m s ≤ s ∧ (zq_fd H m s < s → H (zq_fd H m s) &&& m = H (zq_fd H m s)) ∧ (∀ i, i < zq_fd H m s → H i &&& m ≠ H i) := by
  intro s
  induction s with
  | zero => exact ⟨Nat.le_refl 0, fun h => absurd h (Nat.lt_irrefl 0), fun i h => absurd h (Nat.not_lt_zero i)⟩
  | succ s ih =>
    obtain ⟨h1, h2, h3⟩ := ih
    rw [zq_fd]
    by_cases g : zq_fd H m s < s
    · rw [if_pos g]
      exact ⟨by omega, fun _ => h2 g, h3⟩
    · have e : zq_fd H m s = s := by omega
      rw [if_neg g]
      by_cases d : H s &&& m = H s
      · rw [if_pos d]
        exact ⟨by omega, fun _ => d, fun i hi => h3 i (by omega)⟩
      · rw [if_neg d]
        refine ⟨by omega, fun h => absurd h (by omega), fun i hi => ?_⟩
        by_cases ei : i = s
        · rw [ei]
          exact d
        · exact h3 i (by omega)
theorem zq_fd_eq {H : Nat → Nat} {m s i : Nat} (hi : i < s) (hd : H i &&& m = H i) (hj : ∀ j, j < i → H j &&& m ≠ H j) : zq_fd H m s = i := by
  obtain ⟨h1, h2, h3⟩ := zq_fd_spec H m s
  rcases Nat.lt_trichotomy (zq_fd H m s) i with h | h | h
  · exact absurd (h2 (by omega)) (hj _ h)
  · exact h
  · exact absurd hd (h3 i h)
theorem zq_fd_no {H : Nat → Nat} {m s : Nat} (hj : ∀ j, j < s → H j &&& m ≠ H j) : zq_fd H m s = s := by
  obtain ⟨h1, h2, h3⟩ := zq_fd_spec H m s
  rcases Nat.lt_or_ge (zq_fd H m s) s with h | h
  · exact absurd (h2 h) (hj _ h)
  · omega
theorem zq_fd_ex {H : Nat → Nat} {m s i : Nat} (hi : i < s) (hd : H i &&& m = H i) : zq_fd H m s < s := by
  obtain ⟨h1, h2, h3⟩ := zq_fd_spec H m s
  rcases Nat.lt_or_ge i (zq_fd H m s) with h | h
  · exact absurd hd (h3 i h)
  · omega
/-- a without b's variables -/
def zq_mn (a b : Nat) : Nat := a &&& (15 ^^^ b)
def zq_be (s : Nat) (P H : Nat → Nat) (m : Nat) : Nat := if zq_fd H m s < s then zq_tm (P (zq_fd H m s)) (zq_mn m (H (zq_fd H m s))) else 0
/-- s polynomials with their heads, no head divided by one before it -/
def zq_G (s : Nat) (P H : Nat → Nat) : Prop := ∀ i, i < s → H i < 16 ∧ zq_hd (P i) (H i) ∧ ∀ j, j < i → H j &&& H i ≠ H j
theorem zq_t1 : ∀ h, h < 16 → ∀ m, m < 16 → h &&& m = h → zq_mn m h &&& h = 0 ∧ h ||| zq_mn m h = m ∧ zq_mn m h + h = m ∧ zq_mn m h < 16 := by decide +kernel
theorem zq_t2 : ∀ c, c < 16 → ∀ h, h < 16 → c &&& h ≠ 0 → ∃ v, v < 4 ∧ (c.testBit v = true ∧ h.testBit v = true) := by decide +kernel
theorem zq_t3 : ∀ c, c < 16 → ∀ v, v < 4 → c.testBit v = true → zq_mn c (2 ^ v) + 2 ^ v = c ∧ 2 ^ v ||| zq_mn c (2 ^ v) = c ∧ zq_mn c (2 ^ v) < 16 ∧ 2 ^ v < 16 := by decide +kernel
theorem zq_t4a : ∀ c, c < 16 → ∀ h, h < 16 → ∀ g, g < 16 → c &&& h = 0 → g &&& (c ||| h) = g → zq_mn (h ||| g) h ||| zq_mn (c ||| h) (h ||| g) = c := by decide +kernel
theorem zq_t4b : ∀ c, c < 16 → ∀ h, h < 16 → ∀ g, g < 16 → c &&& h = 0 → g &&& (c ||| h) = g → zq_mn (h ||| g) g ||| zq_mn (c ||| h) (h ||| g) = zq_mn (c ||| h) g := by decide +kernel
theorem zq_t4c : ∀ c, c < 16 → ∀ h, h < 16 → ∀ g, g < 16 → c &&& h = 0 → g &&& (c ||| h) = g → zq_mn (c ||| h) (h ||| g) + (h ||| g) = c + h := by decide +kernel
theorem zq_t4 {c h g : Nat} (hc : c < 16) (hh : h < 16) (hg : g < 16) (e : c &&& h = 0) (d : g &&& (c ||| h) = g) : zq_mn (h ||| g) h ||| zq_mn (c ||| h) (h ||| g) = c ∧ zq_mn (h ||| g) g ||| zq_mn (c ||| h) (h ||| g) = zq_mn (c ||| h) g ∧ zq_mn (c ||| h) (h ||| g) + (h ||| g) = c + h :=
  ⟨zq_t4a c hc h hh g hg e d, zq_t4b c hc h hh g hg e d, zq_t4c c hc h hh g hg e d⟩
theorem zq_t5 : ∀ c, c < 16 → ∀ h, h < 16 → h &&& (c ||| h) = h ∧ (c &&& h = 0 → zq_mn (c ||| h) h = c) := by decide +kernel
theorem zq_mn16 {a : Nat} (b : Nat) (ha : a < 16) : zq_mn a b < 16 := Nat.lt_of_le_of_lt Nat.and_le_left ha
theorem zq_be_some {s : Nat} {P H : Nat → Nat} {m : Nat} (h : zq_fd H m s < s) : zq_be s P H m = zq_tm (P (zq_fd H m s)) (zq_mn m (H (zq_fd H m s))) := if_pos h
theorem zq_be_none {s : Nat} {P H : Nat → Nat} {m : Nat} (h : ¬ zq_fd H m s < s) : zq_be s P H m = 0 := if_neg h
theorem zq_be_hd {s : Nat} {P H : Nat → Nat} (G : zq_G s P H) {m : Nat} (hm : m < 16) (h : zq_fd H m s < s) : zq_hd (zq_be s P H m) m := by
  obtain ⟨_, h2, _⟩ := zq_fd_spec H m s
  obtain ⟨g1, g2, _⟩ := G _ h
  obtain ⟨t1, t2, t3, t4⟩ := zq_t1 _ g1 m hm (h2 h)
  rw [zq_be_some h]
  have r := zq_hd_tm g2 g1 t4 t1
  rw [t2] at r
  exact r
theorem zq_be_ok {s : Nat} {P H : Nat → Nat} (G : zq_G s P H) : zq_ok (zq_be s P H) := by
  intro m hm
  by_cases h : zq_fd H m s < s
  · exact Or.inr (zq_be_hd G hm h)
  · exact Or.inl (zq_be_none h)
theorem zq_be_ne {s : Nat} {P H : Nat → Nat} (G : zq_G s P H) {m : Nat} (hm : m < 16) : zq_be s P H m ≠ 0 ↔ zq_fd H m s < s := by
  constructor
  · intro h
    rcases Nat.lt_or_ge (zq_fd H m s) s with g | g
    · exact g
    · exact absurd (zq_be_none (by omega)) h
  · intro h
    exact zq_hd_n (zq_be_hd G hm h)
/-- the multiples that keep a head, heads below K -/
def zq_ge (s : Nat) (P H : Nat → Nat) (K a : Nat) : Prop := ∃ i c, i < s ∧ c < 16 ∧ c &&& H i = 0 ∧ c + H i < K ∧ a = zq_tm (P i) c
theorem zq_be_ge {s : Nat} {P H : Nat → Nat} (G : zq_G s P H) {m K : Nat} (hm : m < 16) (hK : m < K) (hb : zq_be s P H m ≠ 0) : zq_ge s P H K (zq_be s P H m) := by
  have h := (zq_be_ne G hm).mp hb
  obtain ⟨_, h2, _⟩ := zq_fd_spec H m s
  obtain ⟨g1, g2, _⟩ := G _ h
  obtain ⟨t1, t2, t3, t4⟩ := zq_t1 _ g1 m hm (h2 h)
  exact ⟨_, _, h, t4, t1, by omega, zq_be_some h⟩
theorem zq_red_sp {s : Nat} {P H : Nat → Nat} (G : zq_G s P H) {n f : Nat} (hf : f < 2 ^ n) : zq_sp (zq_ge s P H n) (f ^^^ zq_rd (zq_be s P H) 16 f) :=
  zq_rd_sp (zq_be_ok G) (fun _ hm hn hb => zq_be_ge G hm hn hb) 16 (Nat.le_refl 16) f hf
/-- the square of i by the variable v is done -/
def zq_sq (s : Nat) (P H : Nat → Nat) (i v : Nat) : Prop := (H i).testBit v = true → zq_sp (zq_ge s P H (H i + 2 ^ v)) (zq_tm (P i) (2 ^ v) ^^^ P i)
/-- the difference of i and j is done -/
def zq_df (s : Nat) (P H : Nat → Nat) (i j : Nat) : Prop := zq_sp (zq_ge s P H (H i ||| H j)) (zq_tm (P i) (zq_mn (H i ||| H j) (H i)) ^^^ zq_tm (P j) (zq_mn (H i ||| H j) (H j)))
theorem zq_df_s {s : Nat} {P H : Nat → Nat} {i j : Nat} (h : zq_df s P H i j) : zq_df s P H j i := by
  unfold zq_df at h ⊢
  rw [Nat.or_comm (H j) (H i), Nat.xor_comm]
  exact h
/-- all is done -/
def zq_cl (s : Nat) (P H : Nat → Nat) : Prop := (∀ i, i < s → ∀ v, v < 4 → zq_sq s P H i v) ∧ (∀ i j, j < i → i < s → zq_df s P H i j)
theorem zq_crit {s : Nat} {P H : Nat → Nat} (G : zq_G s P H) (C : zq_cl s P H) : ∀ n c i, c < 16 → i < s → c + H i < n → zq_rd (zq_be s P H) 16 (zq_tm (P i) c) = 0 := by
  intro n
  induction n with
  | zero => exact fun c i _ _ h => absurd h (by omega)
  | succ n ih =>
    intro c i hc hi hn
    obtain ⟨hi16, hhd, _⟩ := G i hi
    have key : ∀ (K e f : Nat), e < 16 → e + K ≤ n → zq_sp (zq_ge s P H K) f → zq_rd (zq_be s P H) 16 (zq_tm f e) = 0 := by
      intro K e f he hK hf
      refine hf (fun f => zq_rd (zq_be s P H) 16 (zq_tm f e) = 0) ?_ ?_ ?_
      · show zq_rd (zq_be s P H) 16 (zq_tm 0 e) = 0
        rw [zq_tm_0, zq_rd_0]
      · intro a b ha hb
        show zq_rd (zq_be s P H) 16 (zq_tm (a ^^^ b) e) = 0
        have ha' : zq_rd (zq_be s P H) 16 (zq_tm a e) = 0 := ha
        have hb' : zq_rd (zq_be s P H) 16 (zq_tm b e) = 0 := hb
        rw [zq_tm_x, zq_rd_x, ha', hb', Nat.xor_self]
      · intro a ha
        obtain ⟨j, d, hj, hd, _, hlt, rfl⟩ := ha
        show zq_rd (zq_be s P H) 16 (zq_tm (zq_tm (P j) d) e) = 0
        rw [zq_tm_c _ _ hd]
        refine ih (d ||| e) j (zq_or16 hd he) hj ?_
        have := zq_d3 d hd e he
        omega
    by_cases hd : c &&& H i = 0
    · obtain ⟨d1, d2⟩ := zq_t5 c hc (H i) hi16
      have hM : c ||| H i < 16 := zq_or16 hc hi16
      have fl : zq_fd H (c ||| H i) s < s := zq_fd_ex hi d1
      obtain ⟨_, f2, _⟩ := zq_fd_spec H (c ||| H i) s
      have f2 := f2 fl
      have wb := zq_rd_be (zq_be_ok G) 16 (Nat.le_refl 16) hM
      rw [zq_be_some fl] at wb
      obtain ⟨k16, _, _⟩ := G _ fl
      generalize zq_fd H (c ||| H i) s = k at fl f2 wb k16
      by_cases ik : i = k
      · rw [← ik, d2 hd] at wb
        exact wb
      · have S : zq_df s P H i k := by
          rcases Nat.lt_or_ge k i with g | g
          · exact C.2 i k g hi
          · exact zq_df_s (C.2 k i (by omega) fl)
        obtain ⟨t1, t2, t3⟩ := zq_t4 hc hi16 k16 hd f2
        have w2 := key (H i ||| H k) (zq_mn (c ||| H i) (H i ||| H k)) _ (zq_mn16 _ hM) (by omega) S
        rw [zq_tm_x, zq_tm_c _ _ (zq_mn16 _ (zq_or16 hi16 k16)), zq_tm_c _ _ (zq_mn16 _ (zq_or16 hi16 k16)), t1, t2, zq_rd_x, wb, Nat.xor_zero] at w2
        exact w2
    · obtain ⟨v, hv, cv, hv2⟩ := zq_t2 c hc (H i) hi16 hd
      obtain ⟨t1, t2, t3, t4⟩ := zq_t3 c hc v hv cv
      have p2 : 0 < 2 ^ v := Nat.two_pow_pos v
      have w2 := key (H i + 2 ^ v) (zq_mn c (2 ^ v)) _ t3 (by omega) (C.1 i hi v hv hv2)
      have w3 := ih (zq_mn c (2 ^ v)) i t3 hi (by omega)
      rw [zq_tm_x, zq_tm_c _ _ t4, t2, zq_rd_x, w3, Nat.xor_zero] at w2
      exact w2
theorem zq_ideal {s : Nat} {P H : Nat → Nat} (G : zq_G s P H) (C : zq_cl s P H) {f e : Nat} (hf : f < 2 ^ 16) (he : e < 16) (hW : zq_rd (zq_be s P H) 16 f = 0) : zq_rd (zq_be s P H) 16 (zq_tm f e) = 0 := by
  have sp := zq_red_sp G hf
  rw [hW, Nat.xor_zero] at sp
  refine sp (fun f => zq_rd (zq_be s P H) 16 (zq_tm f e) = 0) ?_ ?_ ?_
  · show zq_rd (zq_be s P H) 16 (zq_tm 0 e) = 0
    rw [zq_tm_0, zq_rd_0]
  · intro a b ha hb
    show zq_rd (zq_be s P H) 16 (zq_tm (a ^^^ b) e) = 0
    have ha' : zq_rd (zq_be s P H) 16 (zq_tm a e) = 0 := ha
    have hb' : zq_rd (zq_be s P H) 16 (zq_tm b e) = 0 := hb
    rw [zq_tm_x, zq_rd_x, ha', hb', Nat.xor_self]
  · intro a ha
    obtain ⟨j, d, hj, hd, _, hlt, rfl⟩ := ha
    show zq_rd (zq_be s P H) 16 (zq_tm (zq_tm (P j) d) e) = 0
    rw [zq_tm_c _ _ hd]
    exact zq_crit G C _ (d ||| e) j (zq_or16 hd he) hj (Nat.lt_succ_self _)
/-! growing -/
def zq_ext (s : Nat) (P H : Nat → Nat) (s' : Nat) (P' H' : Nat → Nat) : Prop := s ≤ s' ∧ ∀ i, i < s → P' i = P i ∧ H' i = H i
theorem zq_ext_r (s : Nat) (P H : Nat → Nat) : zq_ext s P H s P H := ⟨Nat.le_refl s, fun _ _ => ⟨rfl, rfl⟩⟩
theorem zq_ext_t {s s' s'' : Nat} {P H P' H' P'' H'' : Nat → Nat} (a : zq_ext s P H s' P' H') (b : zq_ext s' P' H' s'' P'' H'') : zq_ext s P H s'' P'' H'' :=
  ⟨Nat.le_trans a.1 b.1, fun i hi => ⟨((b.2 i (Nat.lt_of_lt_of_le hi a.1)).1).trans (a.2 i hi).1, ((b.2 i (Nat.lt_of_lt_of_le hi a.1)).2).trans (a.2 i hi).2⟩⟩
theorem zq_ge_m {s s' : Nat} {P H P' H' : Nat → Nat} (e : zq_ext s P H s' P' H') {K K' a : Nat} (hK : K ≤ K') (h : zq_ge s P H K a) : zq_ge s' P' H' K' a := by
  obtain ⟨i, c, hi, hc, hd, hl, rfl⟩ := h
  refine ⟨i, c, Nat.lt_of_lt_of_le hi e.1, hc, ?_, ?_, ?_⟩
  · rw [(e.2 i hi).2]
    exact hd
  · rw [(e.2 i hi).2]
    omega
  · rw [(e.2 i hi).1]
theorem zq_sq_m {s s' : Nat} {P H P' H' : Nat → Nat} (e : zq_ext s P H s' P' H') {i v : Nat} (hi : i < s) (h : zq_sq s P H i v) : zq_sq s' P' H' i v := by
  unfold zq_sq at h ⊢
  rw [(e.2 i hi).1, (e.2 i hi).2]
  exact fun t => zq_sp_m (fun a ha => zq_ge_m e (Nat.le_refl _) ha) (h t)
theorem zq_df_m {s s' : Nat} {P H P' H' : Nat → Nat} (e : zq_ext s P H s' P' H') {i j : Nat} (hi : i < s) (hj : j < s) (h : zq_df s P H i j) : zq_df s' P' H' i j := by
  unfold zq_df at h ⊢
  rw [(e.2 i hi).1, (e.2 i hi).2, (e.2 j hj).1, (e.2 j hj).2]
  exact zq_sp_m (fun a ha => zq_ge_m e (Nat.le_refl _) ha) h
/-- a function changed at one place -/
def zq_at (F : Nat → Nat) (k x : Nat) : Nat → Nat := fun j => if j = k then x else F j
theorem zq_at_s (F : Nat → Nat) (k x : Nat) : zq_at F k x k = x := if_pos rfl
theorem zq_at_n {F : Nat → Nat} {k x j : Nat} (h : j ≠ k) : zq_at F k x j = F j := if_neg h
/-- taking in what is left of f -/
theorem zq_take {s : Nat} {P H : Nat → Nat} (G : zq_G s P H) {f h : Nat} (hf : f < 2 ^ 16) (hh : zq_hd (zq_rd (zq_be s P H) 16 f) h) :
    zq_G (s + 1) (zq_at P s (zq_rd (zq_be s P H) 16 f)) (zq_at H s h) ∧ zq_ext s P H (s + 1) (zq_at P s (zq_rd (zq_be s P H) 16 f)) (zq_at H s h) ∧ ∀ n, f < 2 ^ n → zq_sp (zq_ge (s + 1) (zq_at P s (zq_rd (zq_be s P H) 16 f)) (zq_at H s h) n) f := by
  have rl := zq_rd_lt (zq_be_ok G) 16 (Nat.le_refl 16) f hf
  have h16 : h < 16 := zq_tblt rl hh.1
  have ex : zq_ext s P H (s + 1) (zq_at P s (zq_rd (zq_be s P H) 16 f)) (zq_at H s h) := ⟨Nat.le_succ s, fun i hi => ⟨zq_at_n (by omega), zq_at_n (by omega)⟩⟩
  refine ⟨fun i hi => ?_, ex, fun n hn => ?_⟩
  · by_cases e : i = s
    · rw [e, zq_at_s, zq_at_s]
      refine ⟨h16, hh, fun j hj => ?_⟩
      rw [zq_at_n (show j ≠ s by omega)]
      intro d
      have b := (zq_be_ne G h16).mpr (zq_fd_ex hj d)
      have z := zq_rd_clear (zq_be_ok G) 16 (Nat.le_refl 16) f h h16 b
      rw [hh.1] at z
      cases z
    · rw [zq_at_n e, zq_at_n e]
      obtain ⟨g1, g2, g3⟩ := G i (by omega)
      refine ⟨g1, g2, fun j hj => ?_⟩
      rw [zq_at_n (show j ≠ s by omega)]
      exact g3 j hj
  · have a := zq_sp_m (fun a ha => zq_ge_m ex (Nat.le_refl _) ha) (zq_red_sp G hn)
    have rn := zq_rd_lt (zq_be_ok G) 16 (Nat.le_refl 16) f hn
    have hn2 : h < n := zq_tblt rn hh.1
    have b : zq_ge (s + 1) (zq_at P s (zq_rd (zq_be s P H) 16 f)) (zq_at H s h) n (zq_rd (zq_be s P H) 16 f) := by
      refine ⟨s, 0, Nat.lt_succ_self s, by omega, Nat.zero_and _, ?_, ?_⟩
      · rw [zq_at_s]
        omega
      · rw [zq_at_s, zq_tm_one rl]
    have c := zq_sp_x a (zq_sp_i b)
    rw [zq_xc] at c
    exact c
theorem zq_take0 {s : Nat} {P H : Nat → Nat} (G : zq_G s P H) {f : Nat} (hz : zq_rd (zq_be s P H) 16 f = 0) : ∀ n, f < 2 ^ n → zq_sp (zq_ge s P H n) f := by
  intro n hn
  have a := zq_red_sp G hn
  rw [hz, Nat.xor_zero] at a
  exact a
end
section
/-! ===== counting ===== -/
/-- how many i < n have S -/
def zq_ct (S : Nat → Bool) : Nat → Nat
  | 0 => 0
  | n + 1 => zq_ct S n + (if S n then 1 else 0)
theorem zq_ct_c {S R : Nat → Bool} : ∀ n, (∀ i, i < n → S i = R i) → zq_ct S n = zq_ct R n := by
  intro n
  induction n with
  | zero => exact fun _ => rfl
  | succ n ih =>
    intro h
    rw [zq_ct, zq_ct, ih (fun i hi => h i (by omega)), h n (by omega)]
theorem zq_ct_le (S : Nat → Bool) : ∀ n, zq_ct S n ≤ n := by
  intro n
  induction n with
  | zero => exact Nat.le_refl 0
  | succ n ih =>
    rw [zq_ct]
    split <;> omega
theorem zq_ct_all {S : Nat → Bool} : ∀ n, (∀ i, i < n → S i = true) → zq_ct S n = n := by
  intro n
  induction n with
  | zero => exact fun _ => rfl
  | succ n ih =>
    intro h
    rw [zq_ct, ih (fun i hi => h i (by omega)), h n (by omega)]
    rfl
theorem zq_ct_non {S : Nat → Bool} : ∀ n, (∀ i, i < n → S i = false) → zq_ct S n = 0 := by
  intro n
  induction n with
  | zero => exact fun _ => rfl
  | succ n ih =>
    intro h
    rw [zq_ct, ih (fun i hi => h i (by omega)), h n (by omega)]
    rfl
theorem zq_ct_not (S : Nat → Bool) : ∀ n, zq_ct S n + zq_ct (fun i => !S i) n = n := by
  intro n
  induction n with
  | zero => rfl
  | succ n ih =>
    rw [zq_ct, zq_ct]
    cases h : S n <;> simp <;> omega
theorem zq_ct_add (S : Nat → Bool) (a : Nat) : ∀ b, zq_ct S (a + b) = zq_ct S a + zq_ct (fun i => S (a + i)) b := by
  intro b
  induction b with
  | zero => rfl
  | succ b ih =>
    rw [← Nat.add_assoc, zq_ct, zq_ct, ih, Nat.add_assoc]
theorem zq_ct_pos {S : Nat → Bool} : ∀ n i, i < n → S i = true → 0 < zq_ct S n := by
  intro n
  induction n with
  | zero => exact fun i h => absurd h (by omega)
  | succ n ih =>
    intro i hi h
    rw [zq_ct]
    by_cases e : i = n
    · rw [← e, h, if_pos rfl]
      omega
    · have := ih i (by omega) h
      omega
theorem zq_ct_rm {R : Nat → Bool} {j : Nat} : ∀ m, j < m → R j = true → zq_ct R m = zq_ct (fun i => R i && !decide (i = j)) m + 1 := by
  intro m
  induction m with
  | zero => exact fun h => absurd h (by omega)
  | succ m ih =>
    intro h hr
    rw [zq_ct, zq_ct]
    by_cases e : j = m
    · have a : zq_ct R m = zq_ct (fun i => R i && !decide (i = j)) m := by
        apply zq_ct_c
        intro i hi
        show R i = (R i && !decide (i = j))
        rw [decide_eq_false (show ¬ i = j by omega)]
        cases R i <;> rfl
      have b : (R m && !decide (m = j)) = false := by
        rw [decide_eq_true e.symm]
        cases R m <;> rfl
      rw [← a, b, ← e, hr]
      rfl
    · have b : (R m && !decide (m = j)) = R m := by
        rw [decide_eq_false (show ¬ m = j from fun x => e x.symm)]
        cases R m <;> rfl
      rw [b, ih (by omega) hr]
      omega
theorem zq_ct_inj {S : Nat → Bool} {F : Nat → Nat} {m : Nat} : ∀ n (R : Nat → Bool), (∀ i, i < n → S i = true → F i < m ∧ R (F i) = true) → (∀ i j, i < n → j < n → S i = true → S j = true → F i = F j → i = j) → zq_ct S n ≤ zq_ct R m := by
  intro n
  induction n with
  | zero => exact fun R _ _ => Nat.zero_le _
  | succ n ih =>
    intro R h1 h2
    rw [zq_ct]
    by_cases e : S n = true
    · obtain ⟨a, b⟩ := h1 n (by omega) e
      rw [e, if_pos rfl, zq_ct_rm m a b]
      refine Nat.succ_le_succ (ih _ (fun i hi hs => ⟨(h1 i (by omega) hs).1, ?_⟩) (fun i j hi hj => h2 i j (by omega) (by omega)))
      show (R (F i) && !decide (F i = F n)) = true
      rw [(h1 i (by omega) hs).2, decide_eq_false (show ¬ F i = F n from fun x => absurd (h2 i n (by omega) (by omega) hs e x) (by omega))]
      rfl
    · rw [if_neg e]
      exact ih R (fun i hi => h1 i (by omega)) (fun i j hi hj => h2 i j (by omega) (by omega))
/-- at most 16 polynomials -/
theorem zq_G16 {s : Nat} {P H : Nat → Nat} (G : zq_G s P H) : s ≤ 16 := by
  have a : zq_ct (fun _ => true) s ≤ zq_ct (fun _ => true) 16 := zq_ct_inj (F := H) s _ (fun i hi _ => ⟨(G i hi).1, rfl⟩) (fun i j hi hj _ _ e => by
    rcases Nat.lt_trichotomy i j with h | h | h
    · exact absurd (by rw [e, Nat.and_self]) ((G j hj).2.2 i h)
    · exact h
    · exact absurd (by rw [e, Nat.and_self]) ((G i hi).2.2 j h))
  rw [zq_ct_all s (fun _ _ => rfl), zq_ct_all 16 (fun _ _ => rfl)] at a
  exact a
theorem zq_2x {n i : Nat} (h : i < 2 ^ n) : 2 ^ n + i = 2 ^ n ^^^ i := by
  apply Nat.eq_of_testBit_eq
  intro k
  rw [Nat.testBit_xor, Nat.testBit_two_pow]
  by_cases e : n = k
  · rw [← e, Nat.testBit_two_pow_add_eq, zq_tbf h (Nat.le_refl n), decide_eq_true rfl]
    rfl
  · rw [decide_eq_false e, Bool.false_xor]
    rcases Nat.lt_or_ge k n with g | g
    · exact Nat.testBit_two_pow_add_gt g i
    · rw [zq_tbf h g]
      exact zq_tbf (show 2 ^ n + i < 2 ^ (n + 1) by rw [Nat.pow_succ]; omega) (by omega)
/-- a set that is closed under xor has 2 ^ (number of its heads) members -/
theorem zq_card {W L : Nat → Bool} (h0 : W 0 = true) (hx : ∀ a b, W a = true → W b = true → W (a ^^^ b) = true) : ∀ n, (∀ k, k < n → (L k = true ↔ ∃ f, W f = true ∧ zq_hd f k)) → zq_ct W (2 ^ n) = 2 ^ zq_ct L n := by
  intro n
  induction n with
  | zero =>
    intro _
    show zq_ct W 1 = 1
    rw [zq_ct, h0]
    rfl
  | succ n ih =>
    intro hL
    have i := ih (fun k hk => hL k (by omega))
    rw [show 2 ^ (n + 1) = 2 ^ n + 2 ^ n by rw [Nat.pow_succ]; omega, zq_ct_add, i, zq_ct]
    by_cases e : L n = true
    · obtain ⟨g, hg, hh⟩ := (hL n (by omega)).mp e
      rw [e, if_pos rfl, Nat.pow_succ]
      have gl : 2 ^ n ^^^ g < 2 ^ n := zq_hd_x (zq_hd_p n) hh
      have k1 : ∀ j, j < 2 ^ n → (2 ^ n + j) ^^^ g = j ^^^ (2 ^ n ^^^ g) := by
        intro j hj
        rw [zq_2x hj, Nat.xor_comm (2 ^ n) j, Nat.xor_assoc]
      have k2 : ∀ j, j < 2 ^ n → (2 ^ n + (j ^^^ (2 ^ n ^^^ g))) = j ^^^ g := by
        intro j hj
        rw [zq_2x (Nat.xor_lt_two_pow hj gl), Nat.xor_comm j, Nat.xor_assoc, zq_xl, Nat.xor_comm]
      have inj : ∀ a b, a ^^^ (2 ^ n ^^^ g) = b ^^^ (2 ^ n ^^^ g) → a = b := by
        intro a b h
        rw [← zq_xc a (2 ^ n ^^^ g), h, zq_xc]
      have A : zq_ct (fun i => W (2 ^ n + i)) (2 ^ n) ≤ zq_ct W (2 ^ n) := zq_ct_inj (F := fun j => j ^^^ (2 ^ n ^^^ g)) _ _ (fun j hj hw => by
        refine ⟨Nat.xor_lt_two_pow hj gl, ?_⟩
        show W (j ^^^ (2 ^ n ^^^ g)) = true
        rw [← k1 j hj]
        exact hx _ _ hw hg) (fun a b _ _ _ _ h => inj a b h)
      have B : zq_ct W (2 ^ n) ≤ zq_ct (fun i => W (2 ^ n + i)) (2 ^ n) := zq_ct_inj (F := fun j => j ^^^ (2 ^ n ^^^ g)) _ _ (fun j hj hw => by
        refine ⟨Nat.xor_lt_two_pow hj gl, ?_⟩
        show W (2 ^ n + (j ^^^ (2 ^ n ^^^ g))) = true
        rw [k2 j hj]
        exact hx _ _ hw hg) (fun a b _ _ _ _ h => inj a b h)
      omega
    · rw [if_neg e, Nat.add_zero]
      have z : zq_ct (fun i => W (2 ^ n + i)) (2 ^ n) = 0 := zq_ct_non _ (fun j hj => by
        show W (2 ^ n + j) = false
        refine Bool.eq_false_iff.mpr (fun hw => e ((hL n (by omega)).mpr ⟨_, hw, ?_⟩))
        rw [zq_2x hj]
        exact zq_hd_y (zq_hd_p n) hj)
      rw [z, Nat.add_zero]
end
section
/-! ===== values at points, products, the number of zeros ===== -/
def zq_vk (f p : Nat) : Nat → Bool
  | 0 => false
  | k + 1 => zq_vk f p k ^^ (f.testBit k && decide (k &&& p = k))
/-- the value of f at the point p -/
def zq_vl (f p : Nat) : Bool := zq_vk f p 16
theorem zq_bx1 (a b c d e : Bool) : ((a ^^ b) ^^ ((c ^^ d) && e)) = ((a ^^ (c && e)) ^^ (b ^^ (d && e))) := by
  cases a <;> cases b <;> cases c <;> cases d <;> cases e <;> rfl
theorem zq_vk_x (f g p k : Nat) : zq_vk (f ^^^ g) p k = (zq_vk f p k ^^ zq_vk g p k) := by
  induction k with
  | zero => rfl
  | succ k ih => rw [zq_vk, zq_vk, zq_vk, ih, Nat.testBit_xor, zq_bx1]
theorem zq_vl_x (f g p : Nat) : zq_vl (f ^^^ g) p = (zq_vl f p ^^ zq_vl g p) := zq_vk_x f g p 16
theorem zq_vk_0 (p k : Nat) : zq_vk 0 p k = false := by
  induction k with
  | zero => rfl
  | succ k ih => rw [zq_vk, ih, Nat.zero_testBit]; rfl
theorem zq_vl_0 (p : Nat) : zq_vl 0 p = false := zq_vk_0 p 16
theorem zq_vk_p (j p k : Nat) : zq_vk (2 ^ j) p k = (decide (j < k) && decide (j &&& p = j)) := by
  induction k with
  | zero => rfl
  | succ k ih =>
    rw [zq_vk, ih, Nat.testBit_two_pow]
    by_cases h : j = k
    · rw [decide_eq_true h, decide_eq_false (show ¬ j < k by omega), decide_eq_true (show j < k + 1 by omega), h]
      cases decide (k &&& p = k) <;> rfl
    · rw [decide_eq_false h]
      by_cases g : j < k
      · rw [decide_eq_true g, decide_eq_true (show j < k + 1 by omega)]
        cases decide (j &&& p = j) <;> rfl
      · rw [decide_eq_false g, decide_eq_false (show ¬ j < k + 1 by omega)]
        rfl
theorem zq_vl_p {j : Nat} (hj : j < 16) (p : Nat) : zq_vl (2 ^ j) p = decide (j &&& p = j) := by
  rw [zq_vl, zq_vk_p, decide_eq_true hj, Bool.true_and]
theorem zq_vl_b {j : Nat} (hj : j < 16) (t : Bool) (p : Nat) : zq_vl (zq_b t (2 ^ j)) p = (t && decide (j &&& p = j)) := by
  cases t
  · exact zq_vl_0 p
  · exact zq_vl_p hj p
theorem zq_ord : ∀ k, k < 16 → ∀ c, c < 16 → ∀ p, p < 16 → decide ((k ||| c) &&& p = k ||| c) = (decide (k &&& p = k) && decide (c &&& p = c)) := by decide +kernel
theorem zq_bx2 (a b c d : Bool) : ((a && b) ^^ (c && (d && b))) = ((a ^^ (c && d)) && b) := by
  cases a <;> cases b <;> cases c <;> cases d <;> rfl
theorem zq_vl_tk {c p : Nat} (f : Nat) (hc : c < 16) (hp : p < 16) : ∀ k, k ≤ 16 → zq_vl (zq_tk f c k) p = (zq_vk f p k && decide (c &&& p = c)) := by
  intro k
  induction k with
  | zero => exact fun _ => zq_vl_0 p
  | succ k ih =>
    intro hk
    rw [zq_tk, zq_vl_x, ih (by omega), zq_vl_b (zq_or16 (show k < 16 by omega) hc), zq_vk, zq_ord k (by omega) c hc p hp, zq_bx2]
theorem zq_vl_tm {c p : Nat} (f : Nat) (hc : c < 16) (hp : p < 16) : zq_vl (zq_tm f c) p = (zq_vl f p && decide (c &&& p = c)) := zq_vl_tk f hc hp 16 (Nat.le_refl 16)
/-! the transform -/
def zq_uk (m : Nat) : Nat → Nat
  | 0 => 0
  | p + 1 => zq_uk m p ^^^ zq_b (decide (m &&& p = m)) (2 ^ p)
def zq_up (m : Nat) : Nat := zq_uk m 16
def zq_ek (f : Nat) : Nat → Nat
  | 0 => 0
  | k + 1 => zq_ek f k ^^^ zq_b (f.testBit k) (zq_up k)
def zq_ev (f : Nat) : Nat := zq_ek f 16
theorem zq_up_tb : ∀ m, m < 16 → ∀ p, p < 16 → (zq_up m).testBit p = decide (m &&& p = m) := by decide +kernel
theorem zq_up_lt : ∀ m, m < 16 → zq_up m < 2 ^ 16 := by decide +kernel
theorem zq_ev_up : ∀ m, m < 16 → zq_ev (zq_up m) = 2 ^ m := by decide +kernel
theorem zq_ek_x (f g k : Nat) : zq_ek (f ^^^ g) k = zq_ek f k ^^^ zq_ek g k := by
  induction k with
  | zero => exact (Nat.xor_self 0).symm
  | succ k ih => rw [zq_ek, zq_ek, zq_ek, Nat.testBit_xor, ih, zq_b_x, zq_x4]
theorem zq_ev_x (f g : Nat) : zq_ev (f ^^^ g) = zq_ev f ^^^ zq_ev g := zq_ek_x f g 16
theorem zq_ek_0 (k : Nat) : zq_ek 0 k = 0 := by
  induction k with
  | zero => rfl
  | succ k ih => rw [zq_ek, ih, Nat.zero_testBit, zq_b_f, Nat.xor_zero]
theorem zq_ev_0 : zq_ev 0 = 0 := zq_ek_0 16
theorem zq_ek_tb {p : Nat} (f : Nat) (hp : p < 16) : ∀ k, k ≤ 16 → (zq_ek f k).testBit p = zq_vk f p k := by
  intro k
  induction k with
  | zero => exact fun _ => Nat.zero_testBit p
  | succ k ih =>
    intro hk
    rw [zq_ek, Nat.testBit_xor, ih (by omega), zq_b_tb, zq_up_tb k (by omega) p hp, zq_vk]
theorem zq_ev_tb {p : Nat} (f : Nat) (hp : p < 16) : (zq_ev f).testBit p = zq_vl f p := zq_ek_tb f hp 16 (Nat.le_refl 16)
theorem zq_ek_lt (f : Nat) : ∀ k, k ≤ 16 → zq_ek f k < 2 ^ 16 := by
  intro k
  induction k with
  | zero => exact fun _ => Nat.two_pow_pos 16
  | succ k ih =>
    intro hk
    rw [zq_ek]
    exact Nat.xor_lt_two_pow (ih (by omega)) (zq_b_lt (fun _ => zq_up_lt k (by omega)))
theorem zq_ev_lt (f : Nat) : zq_ev f < 2 ^ 16 := zq_ek_lt f 16 (Nat.le_refl 16)
theorem zq_ev_b {m : Nat} (t : Bool) (hm : m < 16) : zq_ev (zq_b t (zq_up m)) = zq_b t (2 ^ m) := by
  cases t
  · exact zq_ev_0
  · exact zq_ev_up m hm
theorem zq_ev_ek (f : Nat) : ∀ k, k ≤ 16 → zq_ev (zq_ek f k) = f % 2 ^ k := by
  intro k
  induction k with
  | zero =>
    intro _
    rw [zq_ek, zq_ev_0, Nat.pow_zero, Nat.mod_one]
  | succ k ih =>
    intro hk
    rw [zq_ek, zq_ev_x, ih (by omega), zq_ev_b _ (show k < 16 by omega), zq_modS]
theorem zq_ev_ev {f : Nat} (hf : f < 2 ^ 16) : zq_ev (zq_ev f) = f := by
  have h := zq_ev_ek f 16 (Nat.le_refl 16)
  rw [Nat.mod_eq_of_lt hf] at h
  exact h
theorem zq_ev_p {m : Nat} (hm : m < 16) : zq_ev (2 ^ m) = zq_up m := by
  rw [← zq_ev_up m hm, zq_ev_ev (zq_up_lt m hm)]
theorem zq_vl_inj {f g : Nat} (hf : f < 2 ^ 16) (hg : g < 2 ^ 16) (h : ∀ p, p < 16 → zq_vl f p = zq_vl g p) : f = g := by
  have e : zq_ev f = zq_ev g := by
    apply Nat.eq_of_testBit_eq
    intro i
    rcases Nat.lt_or_ge i 16 with hi | hi
    · rw [zq_ev_tb f hi, zq_ev_tb g hi, h i hi]
    · rw [zq_tbf (zq_ev_lt f) hi, zq_tbf (zq_ev_lt g) hi]
  rw [← zq_ev_ev hf, e, zq_ev_ev hg]
theorem zq_vl_up {m p : Nat} (hm : m < 16) (hp : p < 16) : zq_vl (zq_up m) p = decide (m = p) := by
  rw [← zq_ev_tb _ hp, zq_ev_up m hm, Nat.testBit_two_pow]
/-! products -/
def zq_pk (f g : Nat) : Nat → Nat
  | 0 => 0
  | k + 1 => zq_pk f g k ^^^ zq_b (g.testBit k) (zq_tm f k)
def zq_pr (f g : Nat) : Nat := zq_pk f g 16
theorem zq_pk_lt (f g : Nat) : ∀ k, k ≤ 16 → zq_pk f g k < 2 ^ 16 := by
  intro k
  induction k with
  | zero => exact fun _ => Nat.two_pow_pos 16
  | succ k ih =>
    intro hk
    rw [zq_pk]
    exact Nat.xor_lt_two_pow (ih (by omega)) (zq_b_lt (fun _ => zq_tm_lt f (by omega)))
theorem zq_pr_lt (f g : Nat) : zq_pr f g < 2 ^ 16 := zq_pk_lt f g 16 (Nat.le_refl 16)
theorem zq_bx3 (a b c d : Bool) : ((a && b) ^^ (c && (a && d))) = (a && (b ^^ (c && d))) := by
  cases a <;> cases b <;> cases c <;> cases d <;> rfl
theorem zq_pk_vl (f g : Nat) {p : Nat} (hp : p < 16) : ∀ k, k ≤ 16 → zq_vl (zq_pk f g k) p = (zq_vl f p && zq_vk g p k) := by
  intro k
  induction k with
  | zero =>
    intro _
    rw [zq_pk, zq_vl_0, zq_vk, Bool.and_false]
  | succ k ih =>
    intro hk
    have e : zq_vl (zq_b (g.testBit k) (zq_tm f k)) p = (g.testBit k && (zq_vl f p && decide (k &&& p = k))) := by
      cases g.testBit k
      · exact zq_vl_0 p
      · exact zq_vl_tm f (by omega) hp
    rw [zq_pk, zq_vl_x, ih (by omega), e, zq_vk, zq_bx3]
theorem zq_pr_vl (f g : Nat) {p : Nat} (hp : p < 16) : zq_vl (zq_pr f g) p = (zq_vl f p && zq_vl g p) := zq_pk_vl f g hp 16 (Nat.le_refl 16)
theorem zq_pr_sq {f : Nat} (hf : f < 2 ^ 16) : zq_pr f f = f :=
  zq_vl_inj (zq_pr_lt f f) hf (fun p hp => by rw [zq_pr_vl f f hp, Bool.and_self])
theorem zq_pr_one {f : Nat} (hf : f < 2 ^ 16) : zq_pr f 1 = f :=
  zq_vl_inj (zq_pr_lt f 1) hf (fun p hp => by
    rw [zq_pr_vl f 1 hp, show (1 : Nat) = 2 ^ 0 from rfl, zq_vl_p (by omega), Nat.zero_and, decide_eq_true rfl, Bool.and_true])
theorem zq_pr_zero (g : Nat) : zq_pr 0 g = 0 :=
  zq_vl_inj (zq_pr_lt 0 g) (Nat.two_pow_pos 16) (fun p hp => by rw [zq_pr_vl 0 g hp, zq_vl_0, Bool.false_and])
theorem zq_pk_W {W : Nat → Prop} (h0 : W 0) (hx : ∀ a b, W a → W b → W (a ^^^ b)) {f : Nat} (ht : ∀ e, e < 16 → W (zq_tm f e)) (g : Nat) : ∀ k, k ≤ 16 → W (zq_pk f g k) := by
  intro k
  induction k with
  | zero => exact fun _ => h0
  | succ k ih =>
    intro hk
    rw [zq_pk]
    refine hx _ _ (ih (by omega)) ?_
    cases g.testBit k
    · exact h0
    · exact ht k (by omega)
/-- the same number on both sides of a transform -/
theorem zq_bij {W V : Nat → Bool} {F : Nat → Nat} {N : Nat} (h1 : ∀ f, W f = true → F f < N ∧ V (F f) = true) (h2 : ∀ f, V f = true → F f < N ∧ W (F f) = true)
    (i1 : ∀ f, W f = true → F (F f) = f) (i2 : ∀ f, V f = true → F (F f) = f) : zq_ct W N = zq_ct V N :=
  Nat.le_antisymm (zq_ct_inj (F := F) N V (fun i _ h => h1 i h) (fun i j _ _ hi hj e => by rw [← i1 i hi, e, i1 j hj]))
    (zq_ct_inj (F := F) N W (fun i _ h => h2 i h) (fun i j _ _ hi hj e => by rw [← i2 i hi, e, i2 j hj]))
theorem zq_zeros {W B Z : Nat → Bool} (hl : ∀ f, W f = true → f < 2 ^ 16) (h0 : W 0 = true) (hx : ∀ a b, W a = true → W b = true → W (a ^^^ b) = true) (ht : ∀ f e, W f = true → e < 16 → W (zq_tm f e) = true)
    (hB : ∀ k, k < 16 → (B k = true ↔ ∃ f, W f = true ∧ zq_hd f k)) (hZ : ∀ p, p < 16 → (Z p = true ↔ ∀ f, W f = true → zq_vl f p = false)) : zq_ct Z 16 + zq_ct B 16 = 16 := by
  have vd : ∀ x, (decide (x < 2 ^ 16) && W (zq_ev x)) = true ↔ x < 2 ^ 16 ∧ W (zq_ev x) = true := by
    intro x
    rw [Bool.and_eq_true, decide_eq_true_iff]
  have c1 := zq_card h0 hx 16 hB
  have c2 := zq_card (W := fun x => decide (x < 2 ^ 16) && W (zq_ev x)) (L := fun p => !Z p) ((vd 0).mpr ⟨Nat.two_pow_pos 16, by rw [zq_ev_0]; exact h0⟩)
    (fun a b ha hb => (vd _).mpr ⟨Nat.xor_lt_two_pow ((vd a).mp ha).1 ((vd b).mp hb).1, by rw [zq_ev_x]; exact hx _ _ ((vd a).mp ha).2 ((vd b).mp hb).2⟩) 16 (fun k hk => by
      show (!Z k) = true ↔ ∃ f, (decide (f < 2 ^ 16) && W (zq_ev f)) = true ∧ zq_hd f k
      constructor
      · intro hz
        have nz : ¬ (∀ f, W f = true → zq_vl f k = false) := fun h => by
          rw [(hZ k hk).mpr h] at hz
          cases hz
        have ex : ∃ f, W f = true ∧ zq_vl f k = true := by
          refine Classical.byContradiction (fun n => nz (fun f hf => ?_))
          cases hv : zq_vl f k
          · rfl
          · exact absurd ⟨f, hf, hv⟩ n
        obtain ⟨f, hf, hv⟩ := ex
        have e : zq_pr f (zq_up k) = zq_up k := zq_vl_inj (zq_pr_lt _ _) (zq_up_lt k hk) (fun p hp => by
          rw [zq_pr_vl _ _ hp, zq_vl_up hk hp]
          by_cases g : k = p
          · rw [← g, hv, Bool.true_and]
          · rw [decide_eq_false g, Bool.and_false])
        have w : W (zq_up k) = true := by
          rw [← e]
          exact zq_pk_W (W := fun x => W x = true) h0 hx (fun e he => ht f e hf he) (zq_up k) 16 (Nat.le_refl 16)
        exact ⟨2 ^ k, (vd _).mpr ⟨zq_2lt hk, by rw [zq_ev_p hk]; exact w⟩, zq_hd_p k⟩
      · intro h
        obtain ⟨x, hw, hh⟩ := h
        obtain ⟨x1, x2⟩ := (vd x).mp hw
        cases hz : Z k
        · rfl
        · have a := (hZ k hk).mp hz _ x2
          rw [← zq_ev_tb _ hk, zq_ev_ev x1, hh.1] at a
          cases a)
  have c3 : zq_ct W (2 ^ 16) = zq_ct (fun x => decide (x < 2 ^ 16) && W (zq_ev x)) (2 ^ 16) := zq_bij (F := zq_ev)
    (fun f hf => ⟨zq_ev_lt f, (vd _).mpr ⟨zq_ev_lt f, by rw [zq_ev_ev (hl f hf)]; exact hf⟩⟩) (fun f hf => ⟨zq_ev_lt f, ((vd f).mp hf).2⟩)
    (fun f hf => zq_ev_ev (hl f hf)) (fun f hf => zq_ev_ev ((vd f).mp hf).1)
  have c4 : 2 ^ zq_ct B 16 = 2 ^ zq_ct (fun p => !Z p) 16 := c1.symm.trans (c3.trans c2)
  have c5 : zq_ct B 16 = zq_ct (fun p => !Z p) 16 := (Nat.pow_right_inj (by decide)).mp c4
  rw [c5]
  exact zq_ct_not Z 16
end
section
/-! ===== Int32 and naturals ===== -/
theorem zq_iand (a b : Nat) : nI a &&& nI b = nI (a &&& b) := by
  apply Int32.toBitVec_inj.1
  show BitVec.ofNat 32 a &&& BitVec.ofNat 32 b = BitVec.ofNat 32 (a &&& b)
  apply BitVec.eq_of_getLsbD_eq
  intro i hi
  simp [hi]
theorem zq_ixor (a b : Nat) : nI a ^^^ nI b = nI (a ^^^ b) := by
  apply Int32.toBitVec_inj.1
  show BitVec.ofNat 32 a ^^^ BitVec.ofNat 32 b = BitVec.ofNat 32 (a ^^^ b)
  apply BitVec.eq_of_getLsbD_eq
  intro i hi
  simp [hi]
theorem zq_ior (a b : Nat) : nI a ||| nI b = nI (a ||| b) := by
  apply Int32.toBitVec_inj.1
  show BitVec.ofNat 32 a ||| BitVec.ofNat 32 b = BitVec.ofNat 32 (a ||| b)
  apply BitVec.eq_of_getLsbD_eq
  intro i hi
  simp [hi]
theorem zq_sl : ∀ n, n < 32 → ((nI n &&& 31).toBitVec.smod 32).toNat = n := by decide +kernel
theorem zq_bit {f k : Nat} (hf : f < 2 ^ 31) (hk : k < 32) : ((nI f >>> (nI k &&& 31)) &&& 1) = nI (zq_b (f.testBit k) 1) := by
  rw [pk_shrN hf _ k (zq_sl k hk)]
  show nI (f / 2 ^ k) &&& nI 1 = _
  rw [zq_iand, Nat.and_one_is_mod, Nat.testBit_eq_decide_div_mod_eq]
  rcases Nat.mod_two_eq_zero_or_one (f / 2 ^ k) with h | h
  · rw [h]
    rfl
  · rw [h]
    rfl
theorem zq_bit0 {f k : Nat} (hf : f < 2 ^ 31) (hk : k < 32) : ((nI f >>> (nI k &&& 31)) &&& 1) = 0 ↔ f.testBit k = false := by
  rw [zq_bit hf hk]
  cases f.testBit k
  · exact ⟨fun _ => rfl, fun _ => rfl⟩
  · exact ⟨fun h => absurd h (by decide), fun h => absurd h (by decide)⟩
theorem zq_bit1 {f k : Nat} (hf : f < 2 ^ 31) (hk : k < 32) : ((nI f >>> (nI k &&& 31)) &&& 1) = 1 ↔ f.testBit k = true := by
  rw [zq_bit hf hk]
  cases f.testBit k
  · exact ⟨fun h => absurd h (by decide), fun h => absurd h (by decide)⟩
  · exact ⟨fun _ => rfl, fun _ => rfl⟩
theorem zq_shl : ∀ k, k < 31 → (1 : Int32) <<< (nI k &&& 31) = nI (2 ^ k) := by decide +kernel
theorem zq_imn : ∀ a, a < 16 → ∀ b, b < 16 → nI a &&& (nI b ^^^ (-1)) = nI (zq_mn a b) := by decide +kernel
theorem zq_idv : ∀ h, h < 16 → ∀ m, m < 16 → ((nI h &&& (nI m ^^^ (-1))) = 0 ↔ h &&& m = h) := by decide +kernel
theorem zq_i8 : ∀ h, h < 16 → (nI h).toInt8.toInt32 = nI h := by decide +kernel
theorem zq_nbf {b : Bool} (h : ¬ b = false) : b = true := by
  cases b
  · exact absurd rfl h
  · rfl
theorem zq_nbt {b : Bool} (h : ¬ b = true) : b = false := by
  cases b
  · rfl
  · exact absurd rfl h
/-- the array holds P below s -/
def zq_ar (a : Nat → Int32) (P : Nat → Nat) (s : Nat) : Prop := ∀ i, i < s → a i = nI (P i)
theorem zq_ar_cl {a : Nat → Int32} {P : Nat → Nat} {s i : Nat} (h : zq_ar a P s) (hi : i < s) (h31 : i < 2 ^ 31) : a (nI i).toNatClampNeg = nI (P i) := by
  rw [nI_clamp h31]
  exact h i hi
/-! ===== the methods that call none that stores ===== -/
theorem zq_w_times {post : Int32 → Prop} {f c : Nat} (hf : f < 2 ^ 16) (hc : c < 16) (hp : post (nI (zq_tm f c))) : wpX_times post () (nI f) (nI c) := by
  refine pk_loop (fun n i s => wX_times_4 post (nI f) (nI c) n (nI s) (nI i)) (fun i s => s = zq_tk f c i) 16 0 0 (by omega) rfl ?_ ?_
  · intro n s h
    exact pk_le 16 16 (fun _ => by rw [h]; exact hp) (fun z => absurd z (by omega))
  · intro n i s hi h hw
    refine pk_le 16 i (fun z => absurd z (by omega)) (fun _ => ek_if (zq_bit0 (by omega) (by omega)) (fun hb => nm_r (nI_1 i) (hw s ?_)) (fun hb => nm_r (e' := nI (s ^^^ 2 ^ (i ||| c))) ?_ (nm_r (nI_1 i) (hw _ ?_))))
    · rw [zq_tk, hb, zq_b_f, Nat.xor_zero, h]
    · rw [zq_ior, zq_shl _ (Nat.lt_trans (zq_or16 hi hc) (by omega)), zq_ixor]
    · rw [zq_tk, zq_nbf hb, zq_b_t, h]
theorem zq_w_value {post : Int32 → Prop} {f p : Nat} (hf : f < 2 ^ 16) (hpt : p < 16) (hp : post (nI (zq_b (zq_vl f p) 1))) : wpX_valueAt post () (nI f) (nI p) := by
  refine pk_loop (fun n i s => wX_valueAt_4 post (nI f) (nI p) n (nI s) (nI i)) (fun i s => s = zq_b (zq_vk f p i) 1) 16 0 0 (by omega) rfl ?_ ?_
  · intro n s h
    exact pk_le 16 16 (fun _ => by rw [h]; exact hp) (fun z => absurd z (by omega))
  · intro n i s hi h hw
    refine pk_le 16 i (fun z => absurd z (by omega)) (fun _ => ek_if (zq_idv i hi p hpt) (fun hb => nm_r (e' := nI (s ^^^ zq_b (f.testBit i) 1)) ?_ (nm_r (nI_1 i) (hw _ ?_))) (fun hb => nm_r (nI_1 i) (hw s ?_)))
    · rw [zq_bit (by omega) (by omega), zq_ixor]
    · rw [zq_vk, decide_eq_true hb, Bool.and_true, zq_b_x, h]
    · rw [zq_vk, decide_eq_false hb, Bool.and_false, Bool.xor_false, h]
theorem zq_w_head {post : Int32 → Prop} {f h : Nat} (hf : f < 2 ^ 16) (hh : zq_hd f h) (hp : post (nI h)) : wpX_headOf post () (nI f) := by
  have h16 : h < 16 := zq_tblt hf hh.1
  refine pk_loop (fun n i s => wX_headOf_4 post (nI f) n s (nI i)) (fun i s => h < i → s = nI h) 16 0 (-1) (by omega) (fun z => absurd z (by omega)) ?_ ?_
  · intro n s e
    exact pk_le 16 16 (fun _ => by rw [e h16]; exact hp) (fun z => absurd z (by omega))
  · intro n i s hi e hw
    refine pk_le 16 i (fun z => absurd z (by omega)) (fun _ => ek_if (zq_bit0 (by omega) (by omega)) (fun hb => nm_r (nI_1 i) (hw s ?_)) (fun hb => nm_r (nI_1 i) (hw _ ?_)))
    · intro z
      refine e ?_
      have ne : h ≠ i := fun q => by
        rw [← q, hh.1] at hb
        cases hb
      omega
    · intro z
      have l := zq_tblt hh.2 (zq_nbf hb)
      rw [show i = h by omega]
theorem zq_w_div {post : Int32 → Prop} {pr kn bc bs zs : Int32} {a1 a2 a3 a4 : Nat → Int32} {s m : Nat} {H : Nat → Nat} (hs : s ≤ 32) (hH : zq_ar a3 H s) (h16 : ∀ i, i < s → H i < 16) (hm : m < 16)
    (hp1 : zq_fd H m s < s → post (nI (zq_fd H m s))) (hp2 : ¬ zq_fd H m s < s → post (-1)) : wpX_divisor post (pr, kn, nI s, bc, bs, zs, a1, a2, a3, a4) (nI m) := by
  obtain ⟨d1, d2, d3⟩ := zq_fd_spec H m s
  refine pk_loop (σ := Unit) (fun n i _ => wX_divisor_2 post (nI m) pr kn (nI s) bc bs zs a1 a2 a3 a4 n (nI i)) (fun _ _ => True) (zq_fd H m s) 0 () (Nat.zero_le _) trivial ?_ ?_
  · intro n _ _
    refine pk_le s (zq_fd H m s) (fun z => hp2 (by omega)) (fun z => ⟨pk_in (zq_fd H m s) 32 (by omega), br_t ?_ (hp1 z)⟩)
    rw [zq_ar_cl hH z (by omega)]
    exact (zq_idv _ (h16 _ z) m hm).mpr (d2 z)
  · intro n i _ hi _ hw
    refine pk_le s i (fun z => absurd z (by omega)) (fun z => ⟨pk_in i 32 (by omega), br_f ?_ (nm_r (nI_1 i) (hw () trivial))⟩)
    rw [zq_ar_cl hH z (by omega)]
    exact fun q => d3 i hi ((zq_idv _ (h16 _ z) m hm).mp q)
theorem zq_w_red5 {post : Int32 → Prop} {pr kn bc bs zs : Int32} {a1 a2 a3 a4 : Nat → Int32} {s : Nat} {P H : Nat → Nat} (hs : s ≤ 32) (hP : zq_ar a2 P s) (hH : zq_ar a3 H s) (G : zq_G s P H) :
    ∀ k, k ≤ 16 → ∀ r, r < 2 ^ 16 → post (nI (zq_rd (zq_be s P H) k r)) → wX_reduce_5 post pr kn (nI s) bc bs zs a1 a2 a3 a4 (k + 1) (nI r) (nI k + (-1)) := by
  intro k
  induction k with
  | zero => exact fun _ r _ hp => br_t (by decide) hp
  | succ k ih =>
    intro hk r hr hp
    rw [pk_m1]
    rw [zq_rd] at hp
    refine br_f (nI_pos (by omega)) (ek_if (zq_bit0 (by omega) (by omega)) (fun hb => ?_) (fun hb => ?_))
    · rw [hb, zq_b_f, Nat.xor_zero] at hp
      exact br_t (by decide) (nm_e (ih (by omega) r hr hp))
    · rw [zq_nbf hb, zq_b_t] at hp
      refine zq_w_div hs hH (fun i hi => (G i hi).1) (show k < 16 by omega) (fun z => ?_) (fun z => ?_)
      · rw [zq_be_some z] at hp
        obtain ⟨g1, g2, g3⟩ := G _ z
        generalize zq_fd H k s = d at z hp g1 g2 g3
        have hP16 : P d < 2 ^ 16 := Nat.lt_of_lt_of_le g2.2 (zq_2le g1)
        refine br_f (nI_pos (by omega)) ⟨pk_in d 32 (by omega), pk_in d 32 (by omega), ?_⟩
        rw [zq_ar_cl hP z (by omega), zq_ar_cl hH z (by omega), zq_imn k (by omega) _ g1]
        refine zq_w_times hP16 (zq_mn16 _ (by omega)) (nm_r (zq_ixor _ _) (nm_e (ih (by omega) _ ?_ hp)))
        exact Nat.xor_lt_two_pow hr (zq_tm_lt _ (zq_mn16 _ (by omega)))
      · rw [zq_be_none z, Nat.xor_zero] at hp
        exact br_t (by decide) (nm_e (ih (by omega) r hr hp))
theorem zq_w_red {post : Int32 → Prop} {pr kn bc bs zs : Int32} {a1 a2 a3 a4 : Nat → Int32} {s f : Nat} {P H : Nat → Nat} (hP : zq_ar a2 P s) (hH : zq_ar a3 H s) (G : zq_G s P H) (hf : f < 2 ^ 16)
    (hp : post (nI (zq_rd (zq_be s P H) 16 f))) : wpX_reduce post (pr, kn, nI s, bc, bs, zs, a1, a2, a3, a4) (nI f) :=
  ⟨17, zq_w_red5 (Nat.le_trans (zq_G16 G) (by omega)) hP hH G 16 (Nat.le_refl 16) f hf hp⟩
end
section
/-! ===== completing ===== -/
theorem zq_ar_at {a : Nat → Int32} {P : Nat → Nat} {s x : Nat} (h : zq_ar a P s) : zq_ar (upd a s (nI x)) (zq_at P s x) (s + 1) := by
  intro i hi
  by_cases e : i = s
  · rw [e, pk_us, zq_at_s]
  · rw [pk_un e, zq_at_n e]
    exact h i (by omega)
/-- the arrays hold s polynomials and their heads -/
def zq_D (s : Nat) (P H : Nat → Nat) (a2 a3 : Nat → Int32) : Prop := zq_ar a2 P s ∧ zq_ar a3 H s ∧ zq_G s P H
theorem zq_w_take {post : Int32 → St1 → Prop} {pr kn bc bs zs : Int32} {a1 a2 a3 a4 : Nat → Int32} {s f : Nat} {P H : Nat → Nat} (D : zq_D s P H a2 a3) (hf : f < 2 ^ 16)
    (hp : ∀ r s' P' H' a2' a3', zq_D s' P' H' a2' a3' → zq_ext s P H s' P' H' → (∀ n, f < 2 ^ n → zq_sp (zq_ge s' P' H' n) f) → post r (pr, kn, nI s', bc, bs, zs, a1, a2', a3', a4)) :
    wpX_takeIn post (pr, kn, nI s, bc, bs, zs, a1, a2, a3, a4) (nI f) := by
  obtain ⟨hP, hH, G⟩ := D
  have s16 := zq_G16 G
  have rl := zq_rd_lt (zq_be_ok G) 16 (Nat.le_refl 16) f hf
  unfold wpX_takeIn
  refine zq_w_red hP hH G hf (pk_eq (zq_rd (zq_be s P H) 16 f) 0 (fun e => ?_) (fun e => ?_))
  · exact hp _ s P H a2 a3 ⟨hP, hH, G⟩ (zq_ext_r s P H) (zq_take0 G e)
  · obtain ⟨h, h16, hh⟩ := zq_hd_of 16 _ e rl
    obtain ⟨t1, t2, t3⟩ := zq_take G hf hh
    refine pk_lt s 32 (fun _ => ⟨pk_in s 32 (by omega), nm_r (e' := upd a2 s (nI (zq_rd (zq_be s P H) 16 f))) (by rw [nI_clamp (by omega)]) (zq_w_head rl hh ⟨pk_in s 32 (by omega), nm_r (e' := upd a3 s (nI h)) (by rw [nI_clamp (by omega), zq_i8 h h16]) (nm_r (nI_1 s) ?_)⟩)⟩) (fun z => absurd z (by omega))
    exact hp _ (s + 1) _ _ _ _ ⟨zq_ar_at hP, zq_ar_at hH, t1⟩ t2 t3
theorem zq_G_lt {s : Nat} {P H : Nat → Nat} (G : zq_G s P H) {i : Nat} (hi : i < s) : P i < 2 ^ 16 := Nat.lt_of_lt_of_le (G i hi).2.1.2 (zq_2le (G i hi).1)
theorem zq_v4 : ∀ v, v < 4 → 2 ^ v < 16 ∧ 1 ≤ 2 ^ v := by decide +kernel
theorem zq_w_squares {post : St1 → Prop} {pr kn bc bs zs : Int32} {a1 a2 a3 a4 : Nat → Int32} {s k : Nat} {P H : Nat → Nat} (D : zq_D s P H a2 a3) (hk : k < s)
    (hp : ∀ s' P' H' a2' a3', zq_D s' P' H' a2' a3' → zq_ext s P H s' P' H' → (∀ v, v < 4 → zq_sq s' P' H' k v) → post (pr, kn, nI s', bc, bs, zs, a1, a2', a3', a4)) :
    wpX_takeSquares post (pr, kn, nI s, bc, bs, zs, a1, a2, a3, a4) (nI k) := by
  refine pk_loop (fun n i (t : Nat × (Nat → Nat) × (Nat → Nat) × (Nat → Int32) × (Nat → Int32)) => wX_takeSquares_2 post (nI k) n (nI i) pr kn (nI t.1) bc bs zs a1 t.2.2.2.1 t.2.2.2.2 a4)
    (fun i t => zq_D t.1 t.2.1 t.2.2.1 t.2.2.2.1 t.2.2.2.2 ∧ zq_ext s P H t.1 t.2.1 t.2.2.1 ∧ ∀ v, v < i → zq_sq t.1 t.2.1 t.2.2.1 k v) 4 0 (s, P, H, a2, a3) (by omega) ⟨D, zq_ext_r s P H, fun v hv => absurd hv (by omega)⟩ ?_ ?_
  · intro n t h
    exact pk_le 4 4 (fun _ => hp _ _ _ _ _ h.1 h.2.1 h.2.2) (fun z => absurd z (by omega))
  · intro n i t hi h hw
    obtain ⟨s1, P1, H1, b2, b3⟩ := t
    obtain ⟨⟨hP, hH, G⟩, ex, sq⟩ := h
    dsimp only at hP hH G ex sq hw ⊢
    have k1 : k < s1 := Nat.lt_of_lt_of_le hk ex.1
    have s16 := zq_G16 G
    obtain ⟨g1, g2, g3⟩ := G k k1
    obtain ⟨v1, v2⟩ := zq_v4 i hi
    refine pk_le 4 i (fun z => absurd z (by omega)) (fun _ => ⟨pk_in k 32 (by omega), ?_⟩)
    rw [zq_ar_cl hH k1 (by omega), zq_ar_cl hP k1 (by omega)]
    refine ek_if (zq_bit0 (by omega) (by omega)) (fun hb => nm_r (nI_1 i) (hw (s1, P1, H1, b2, b3) ⟨⟨hP, hH, G⟩, ex, fun v hv => ?_⟩)) (fun hb => ⟨pk_in k 32 (by omega), ?_⟩)
    · by_cases e : v = i
      · intro tt
        rw [e, hb] at tt
        cases tt
      · exact sq v (by omega)
    · rw [zq_shl i (by omega)]
      refine zq_w_times (zq_G_lt G k1) v1 ⟨pk_in k 32 (by omega), ?_⟩
      rw [zq_ixor]
      refine zq_w_take ⟨hP, hH, G⟩ (Nat.xor_lt_two_pow (zq_tm_lt _ v1) (zq_G_lt G k1)) (fun r s2 P2 H2 c2 c3 D2 ex2 sp2 => nm_r (nI_1 i) (hw (s2, P2, H2, c2, c3) ⟨D2, zq_ext_t ex ex2, fun v hv => ?_⟩))
      by_cases e : v = i
      · intro _
        dsimp only
        rw [(ex2.2 k k1).1, (ex2.2 k k1).2, e]
        refine sp2 _ (Nat.xor_lt_two_pow (zq_tm_sq g2.2 g1 hi (zq_nbf hb)) (Nat.lt_of_lt_of_le g2.2 (zq_2le (by omega))))
      · exact zq_sq_m ex2 k1 (sq v (by omega))
theorem zq_dall : ∀ a, a < 16 → ∀ b, b < 16 → a &&& (a ||| b) = a ∧ b &&& (a ||| b) = b := by decide +kernel
theorem zq_w_diff {post : St1 → Prop} {pr kn bc bs zs : Int32} {a1 a2 a3 a4 : Nat → Int32} {s i j : Nat} {P H : Nat → Nat} (D : zq_D s P H a2 a3) (hi : i < s) (hj : j < s)
    (hp : ∀ s' P' H' a2' a3', zq_D s' P' H' a2' a3' → zq_ext s P H s' P' H' → zq_df s' P' H' i j → post (pr, kn, nI s', bc, bs, zs, a1, a2', a3', a4)) :
    wpX_takeDifference post (pr, kn, nI s, bc, bs, zs, a1, a2, a3, a4) (nI i) (nI j) := by
  obtain ⟨hP, hH, G⟩ := D
  have s16 := zq_G16 G
  obtain ⟨i1, i2, _⟩ := G i hi
  obtain ⟨j1, j2, _⟩ := G j hj
  obtain ⟨d1, d2⟩ := zq_dall _ i1 _ j1
  have hA : H i ||| H j < 16 := zq_or16 i1 j1
  obtain ⟨p1, p2, p3, p4⟩ := zq_t1 _ i1 _ hA d1
  obtain ⟨q1, q2, q3, q4⟩ := zq_t1 _ j1 _ hA d2
  have h1 := zq_hd_tm i2 i1 p4 p1
  have h2 := zq_hd_tm j2 j1 q4 q1
  rw [p2] at h1
  rw [q2] at h2
  unfold wpX_takeDifference
  refine ⟨pk_in i 32 (by omega), pk_in j 32 (by omega), nm_r (e' := nI (H i ||| H j)) ?_ ⟨pk_in i 32 (by omega), pk_in i 32 (by omega), ?_⟩⟩
  · rw [zq_ar_cl hH hi (by omega), zq_ar_cl hH hj (by omega), zq_ior]
  · rw [zq_ar_cl hH hi (by omega), zq_ar_cl hP hi (by omega), zq_ar_cl hH hj (by omega), zq_ar_cl hP hj (by omega), zq_imn _ hA _ i1, zq_imn _ hA _ j1]
    refine zq_w_times (zq_G_lt G hi) p4 ⟨pk_in j 32 (by omega), pk_in j 32 (by omega), zq_w_times (zq_G_lt G hj) q4 ?_⟩
    rw [zq_ixor]
    refine zq_w_take ⟨hP, hH, G⟩ (Nat.xor_lt_two_pow (zq_tm_lt _ p4) (zq_tm_lt _ q4)) (fun r s2 P2 H2 c2 c3 D2 ex2 sp2 => hp s2 P2 H2 c2 c3 D2 ex2 ?_)
    unfold zq_df
    rw [(ex2.2 i hi).1, (ex2.2 i hi).2, (ex2.2 j hj).1, (ex2.2 j hj).2]
    exact sp2 _ (zq_hd_x h1 h2)
/-- all squares and differences of the first i are done -/
def zq_dn (s : Nat) (P H : Nat → Nat) (i : Nat) : Prop := (∀ a, a < i → ∀ v, v < 4 → zq_sq s P H a v) ∧ (∀ a b, b < a → a < i → zq_df s P H a b)
theorem zq_dn_m {s s' : Nat} {P H P' H' : Nat → Nat} (e : zq_ext s P H s' P' H') {i : Nat} (hi : i ≤ s) (h : zq_dn s P H i) : zq_dn s' P' H' i :=
  ⟨fun a ha v hv => zq_sq_m e (by omega) (h.1 a ha v hv), fun a b hb ha => zq_df_m e (by omega) (by omega) (h.2 a b hb ha)⟩
theorem zq_w_c55 {post : St1 → Prop} {J : Int32 → Int32 → Int32 → Int32 → Int32 → Int32 → Int32 → (Nat → Int32) → (Nat → Int32) → (Nat → Int32) → (Nat → Int32) → Prop} {pr kn bc bs zs : Int32} {a1 a2 a3 a4 : Nat → Int32} {s i : Nat} {P H : Nat → Nat} (D : zq_D s P H a2 a3) (hi : i < s)
    (hp : ∀ s' P' H' a2' a3', zq_D s' P' H' a2' a3' → zq_ext s P H s' P' H' → (∀ j, j < i → zq_df s' P' H' i j) → J (nI (i + 1)) pr kn (nI s') bc bs zs a1 a2' a3' a4) :
    ∃ n, wX_complete_55 post J (nI i) n 0 pr kn (nI s) bc bs zs a1 a2 a3 a4 := by
  have s16 := zq_G16 D.2.2
  refine pk_loop (fun n j (t : Nat × (Nat → Nat) × (Nat → Nat) × (Nat → Int32) × (Nat → Int32)) => wX_complete_55 post J (nI i) n (nI j) pr kn (nI t.1) bc bs zs a1 t.2.2.2.1 t.2.2.2.2 a4)
    (fun j t => zq_D t.1 t.2.1 t.2.2.1 t.2.2.2.1 t.2.2.2.2 ∧ zq_ext s P H t.1 t.2.1 t.2.2.1 ∧ ∀ b, b < j → zq_df t.1 t.2.1 t.2.2.1 i b) i 0 (s, P, H, a2, a3) (by omega) ⟨D, zq_ext_r s P H, fun v hv => absurd hv (by omega)⟩ ?_ ?_
  · intro n t h
    exact pk_le i i (fun _ => nm_r (nI_1 i) (hp _ _ _ _ _ h.1 h.2.1 h.2.2)) (fun z => absurd z (by omega))
  · intro n j t hj h hw
    obtain ⟨s1, P1, H1, b2, b3⟩ := t
    obtain ⟨D1, ex, df⟩ := h
    dsimp only at D1 ex df hw ⊢
    have i1 : i < s1 := Nat.lt_of_lt_of_le hi ex.1
    refine pk_le i j (fun z => absurd z (by omega)) (fun _ => zq_w_diff D1 i1 (by omega) (fun s2 P2 H2 c2 c3 D2 ex2 df2 => nm_r (nI_1 j) (hw (s2, P2, H2, c2, c3) ⟨D2, zq_ext_t ex ex2, fun b hb => ?_⟩)))
    by_cases e : b = j
    · rw [e]
      exact df2
    · exact zq_df_m ex2 i1 (by omega) (df b (by omega))
theorem zq_w_c40 {post : St1 → Prop} {pr kn bc bs zs : Int32} {a1 a4 : Nat → Int32}
    {Q : Nat → Prop} (hQ : ∀ s s', 0 < s → Q s → Q s')
    (hp : ∀ s' P' H' a2' a3', zq_D s' P' H' a2' a3' → zq_cl s' P' H' → Q s' → post (pr, kn, nI s', bc, bs, zs, a1, a2', a3', a4)) :
    ∀ n i s P H a2 a3, zq_D s P H a2 a3 → Q s → i ≤ s → zq_dn s P H i → 17 ≤ n + i → wX_complete_40 post n (nI i) pr kn (nI s) bc bs zs a1 a2 a3 a4 := by
  intro n
  induction n with
  | zero =>
    intro i s P H a2 a3 D _ hi _ hn
    have s16 := zq_G16 D.2.2
    exact absurd hn (by omega)
  | succ n ih =>
    intro i s P H a2 a3 D q hi dn hn
    have s16 := zq_G16 D.2.2
    refine pk_le s i (fun z => ?_) (fun z => ?_)
    · have e : i = s := by omega
      rw [e] at dn
      exact hp s P H a2 a3 D dn q
    · refine zq_w_squares D z (fun s1 P1 H1 b2 b3 D1 ex1 sq1 => ?_)
      have i1 : i < s1 := Nat.lt_of_lt_of_le z ex1.1
      refine zq_w_c55 D1 i1 (fun s2 P2 H2 c2 c3 D2 ex2 df2 => ?_)
      have i2 : i < s2 := Nat.lt_of_lt_of_le i1 ex2.1
      have d2 : zq_dn s2 P2 H2 i := zq_dn_m (zq_ext_t ex1 ex2) (by omega) dn
      refine ih (i + 1) s2 P2 H2 c2 c3 D2 (hQ s s2 (by omega) q) (by omega) ⟨fun a ha v hv => ?_, fun a b hb ha => ?_⟩ (by omega)
      · by_cases e : a = i
        · rw [e]
          exact zq_sq_m ex2 i1 (sq1 v hv)
        · exact d2.1 a (by omega) v hv
      · by_cases e : a = i
        · rw [e]
          exact df2 b (by omega)
        · exact d2.2 a b hb (by omega)
theorem zq_w_complete {post : St1 → Prop} {pr kn sz bc bs zs : Int32} {a1 a2 a3 a4 : Nat → Int32} {st : Nat} {gv : Nat → Nat} (hst : st < 64) (hg : zq_ar a1 gv 6) (hg2 : ∀ i, i < 6 → gv i < 2 ^ 16)
    (hp : ∀ s' P' H' a2' a3', zq_D s' P' H' a2' a3' → zq_cl s' P' H' → (st = 0 → s' = 0) → post (pr, kn, nI s', bc, bs, zs, a1, a2', a3', a4)) :
    wpX_complete post (pr, kn, sz, bc, bs, zs, a1, a2, a3, a4) (nI st) := by
  unfold wpX_complete
  refine pk_loop (fun n i (t : Nat × (Nat → Nat) × (Nat → Nat) × (Nat → Int32) × (Nat → Int32)) => wX_complete_7 post (nI st) n (nI i) pr kn (nI t.1) bc bs zs a1 t.2.2.2.1 t.2.2.2.2 a4)
    (fun i t => zq_D t.1 t.2.1 t.2.2.1 t.2.2.2.1 t.2.2.2.2 ∧ (st = 0 → t.1 = 0)) 6 0 (0, fun _ => 0, fun _ => 0, a2, a3) (by omega) ⟨⟨fun i hi => absurd hi (by omega), fun i hi => absurd hi (by omega), fun i hi => absurd hi (by omega)⟩, fun _ => rfl⟩ ?_ ?_
  · intro n t h
    refine pk_le 6 6 (fun _ => ⟨17, ?_⟩) (fun z => absurd z (by omega))
    exact zq_w_c40 (Q := fun s => st = 0 → s = 0) (fun s s' h0 q e => absurd (q e) (by omega)) hp 17 0 _ _ _ _ _ h.1 h.2 (by omega) ⟨fun a ha => absurd ha (by omega), fun a b hb ha => absurd ha (by omega)⟩ (by omega)
  · intro n i t hi h hw
    obtain ⟨s1, P1, H1, b2, b3⟩ := t
    obtain ⟨D1, q⟩ := h
    dsimp only at D1 q hw ⊢
    refine pk_le 6 i (fun z => absurd z (by omega)) (fun _ => ek_if (zq_bit0 (by omega) (by omega)) (fun hb => nm_r (nI_1 i) (hw (s1, P1, H1, b2, b3) ⟨D1, q⟩)) (fun hb => ⟨pk_in i 6 hi, ?_⟩))
    rw [zq_ar_cl hg hi (by omega)]
    refine zq_w_take D1 (hg2 i hi) (fun r s2 P2 H2 c2 c3 D2 ex2 sp2 => nm_r (nI_1 i) (hw (s2, P2, H2, c2, c3) ⟨D2, fun e => ?_⟩))
    rw [e, Nat.zero_testBit] at hb
    exact absurd rfl hb
end
section
/-! ===== bound, least, basis, zeros: the picture of a learned state ===== -/
def zq_bd (s : Nat) (H : Nat → Nat) (m : Nat) : Bool := decide (zq_fd H m s < s)
theorem zq_bd_iff {s : Nat} {H : Nat → Nat} {m : Nat} : zq_bd s H m = true ↔ zq_fd H m s < s := decide_eq_true_iff
/-- B at m, and at none of m less one of the variables below k -/
def zq_ls (B : Nat → Bool) (m : Nat) : Nat → Bool
  | 0 => B m
  | v + 1 => zq_ls B m v && !(m.testBit v && B (zq_mn m (2 ^ v)))
theorem zq_ls_iff {B : Nat → Bool} {m : Nat} : ∀ k, zq_ls B m k = true ↔ B m = true ∧ ∀ v, v < k → ¬ (m.testBit v = true ∧ B (zq_mn m (2 ^ v)) = true) := by
  intro k
  induction k with
  | zero => exact ⟨fun h => ⟨h, fun v hv => absurd hv (by omega)⟩, fun h => h.1⟩
  | succ k ih =>
    rw [zq_ls, Bool.and_eq_true, ih]
    constructor
    · intro h
      refine ⟨h.1.1, fun v hv => ?_⟩
      by_cases e : v = k
      · rw [e]
        intro q
        rw [q.1, q.2] at h
        exact absurd h.2 (by decide)
      · exact h.1.2 v (by omega)
    · intro h
      refine ⟨⟨h.1, fun v hv => h.2 v (by omega)⟩, ?_⟩
      have q := h.2 k (by omega)
      cases e1 : m.testBit k
      · rfl
      · cases e2 : B (zq_mn m (2 ^ k))
        · rfl
        · exact absurd ⟨e1, e2⟩ q
theorem zq_ls_f {B : Nat → Bool} {m k : Nat} (h : zq_ls B m k = false) : ∀ j, k ≤ j → zq_ls B m j = false := by
  intro j hj
  apply zq_nbt
  intro t
  obtain ⟨a, b⟩ := (zq_ls_iff j).mp t
  have := (zq_ls_iff k).mpr ⟨a, fun v hv => b v (by omega)⟩
  rw [h] at this
  cases this
theorem zq_mlt : ∀ m, m < 16 → ∀ v, v < 4 → m.testBit v = true → zq_mn m (2 ^ v) < m ∧ ∀ a, a < 16 → a &&& zq_mn m (2 ^ v) = a → a &&& m = a := by decide +kernel
theorem zq_least {B : Nat → Bool} : ∀ n m, m < n → m < 16 → B m = true → ∃ a, a < 16 ∧ a &&& m = a ∧ zq_ls B a 4 = true := by
  intro n
  induction n with
  | zero => exact fun m h => absurd h (by omega)
  | succ n ih =>
    intro m hn hm hb
    cases e : zq_ls B m 4
    · have ex : ∃ v, v < 4 ∧ (m.testBit v = true ∧ B (zq_mn m (2 ^ v)) = true) := by
        refine Classical.byContradiction (fun q => ?_)
        have := (zq_ls_iff (B := B) (m := m) 4).mpr ⟨hb, fun v hv t => q ⟨v, hv, t⟩⟩
        rw [e] at this
        cases this
      obtain ⟨v, hv, t1, t2⟩ := ex
      obtain ⟨l1, l2⟩ := zq_mlt m hm v hv t1
      obtain ⟨a, a1, a2, a3⟩ := ih _ (by omega) (by omega) t2
      exact ⟨a, a1, l2 a a1 a2, a3⟩
    · exact ⟨m, hm, Nat.and_self m, e⟩
/-- the members of B below k, as a word -/
def zq_bs (B : Nat → Bool) : Nat → Nat
  | 0 => 0
  | k + 1 => zq_bs B k ||| zq_b (B k) (2 ^ k)
theorem zq_bs_tb (B : Nat → Bool) (i : Nat) : ∀ k, (zq_bs B k).testBit i = (decide (i < k) && B i) := by
  intro k
  induction k with
  | zero => rw [zq_bs, Nat.zero_testBit]; rfl
  | succ k ih =>
    rw [zq_bs, Nat.testBit_or, ih, zq_b_tb, Nat.testBit_two_pow]
    by_cases e : k = i
    · rw [← e, decide_eq_true rfl, decide_eq_false (Nat.lt_irrefl k), decide_eq_true (Nat.lt_succ_self k)]
      cases B k <;> rfl
    · rw [decide_eq_false e]
      by_cases g : i < k
      · rw [decide_eq_true g, decide_eq_true (show i < k + 1 by omega)]
        cases B i <;> cases B k <;> rfl
      · rw [decide_eq_false g, decide_eq_false (show ¬ i < k + 1 by omega)]
        cases B k <;> rfl
theorem zq_bs_b (B : Nat → Bool) {i : Nat} (hi : i < 16) : (zq_bs B 16).testBit i = B i := by
  rw [zq_bs_tb, decide_eq_true hi, Bool.true_and]
theorem zq_bs_lt (B : Nat → Bool) : ∀ k, zq_bs B k < 2 ^ k := by
  intro k
  apply Nat.lt_pow_two_of_testBit
  intro i hi
  rw [zq_bs_tb, decide_eq_false (by omega), Bool.false_and]
/-- all polynomials vanish at p -/
def zq_va (Bp : Nat → Nat) (p : Nat) : Nat → Bool
  | 0 => true
  | j + 1 => zq_va Bp p j && !zq_vl (Bp j) p
theorem zq_va_iff {Bp : Nat → Nat} {p : Nat} : ∀ c, zq_va Bp p c = true ↔ ∀ j, j < c → zq_vl (Bp j) p = false := by
  intro c
  induction c with
  | zero => exact ⟨fun _ j hj => absurd hj (by omega), fun _ => rfl⟩
  | succ c ih =>
    rw [zq_va, Bool.and_eq_true, ih]
    constructor
    · intro h j hj
      by_cases e : j = c
      · rw [e]
        cases q : zq_vl (Bp c) p
        · rfl
        · rw [q] at h
          exact absurd h.2 (by decide)
      · exact h.1 j (by omega)
    · intro h
      refine ⟨fun j hj => h j (by omega), ?_⟩
      rw [h c (by omega)]
      rfl
theorem zq_va_f {Bp : Nat → Nat} {p j : Nat} (h : zq_va Bp p j = false) : ∀ c, j ≤ c → zq_va Bp p c = false := by
  intro c hc
  apply zq_nbt
  intro t
  have b := (zq_va_iff c).mp t
  have := (zq_va_iff j).mpr (fun i hi => b i (by omega))
  rw [h] at this
  cases this
/-- the basis polynomial of a least bound monomial -/
def zq_ba (s : Nat) (P H : Nat → Nat) (m : Nat) : Nat := 2 ^ m ^^^ zq_rd (zq_be s P H) 16 (2 ^ m)
theorem zq_ba_lt {s : Nat} {P H : Nat → Nat} (G : zq_G s P H) {m : Nat} (hm : m < 16) : zq_ba s P H m < 2 ^ 16 :=
  Nat.xor_lt_two_pow (zq_2lt hm) (zq_rd_lt (zq_be_ok G) 16 (Nat.le_refl 16) _ (zq_2lt hm))
theorem zq_ba_W {s : Nat} {P H : Nat → Nat} (G : zq_G s P H) (m : Nat) : zq_rd (zq_be s P H) 16 (zq_ba s P H m) = 0 := by
  rw [zq_ba, zq_rd_x, zq_rd_idem (zq_be_ok G), Nat.xor_self]
theorem zq_ba_hd {s : Nat} {P H : Nat → Nat} (G : zq_G s P H) {m : Nat} (hm : m < 16) (hb : zq_bd s H m = true) : zq_hd (zq_ba s P H m) m := by
  refine zq_hd_y (zq_hd_p m) ?_
  have c := zq_rd_clear (zq_be_ok G) 16 (Nat.le_refl 16) (2 ^ m) m hm ((zq_be_ne G hm).mpr (zq_bd_iff.mp hb))
  have l := zq_rd_lt (zq_be_ok G) 16 (Nat.le_refl 16) (2 ^ m) (zq_2lt (Nat.lt_succ_self m))
  apply Nat.lt_pow_two_of_testBit
  intro i hi
  by_cases e : i = m
  · rw [e]
    exact c
  · exact zq_tbf l (by omega)
/-- the basis has been stored below c -/
def zq_L (s : Nat) (P H : Nat → Nat) (i c : Nat) (Bp : Nat → Nat) : Prop :=
  (∀ j, j < c → ∃ m, m < i ∧ zq_ls (zq_bd s H) m 4 = true ∧ Bp j = zq_ba s P H m) ∧ (∀ m, m < i → zq_ls (zq_bd s H) m 4 = true → ∃ j, j < c ∧ Bp j = zq_ba s P H m)
/-- the number of zeros -/
theorem zq_main {s c : Nat} {P H Bp : Nat → Nat} (G : zq_G s P H) (C : zq_cl s P H) (L : zq_L s P H 16 c Bp) : zq_ct (fun p => zq_va Bp p c) 16 + zq_ct (zq_bd s H) 16 = 16 := by
  have ok := zq_be_ok G
  have wd : ∀ f, (decide (f < 2 ^ 16) && decide (zq_rd (zq_be s P H) 16 f = 0)) = true ↔ f < 2 ^ 16 ∧ zq_rd (zq_be s P H) 16 f = 0 := by
    intro f
    rw [Bool.and_eq_true, decide_eq_true_iff, decide_eq_true_iff]
  have bW : ∀ m, m < 16 → (decide (zq_ba s P H m < 2 ^ 16) && decide (zq_rd (zq_be s P H) 16 (zq_ba s P H m) = 0)) = true := fun m hm => (wd _).mpr ⟨zq_ba_lt G hm, zq_ba_W G m⟩
  refine zq_zeros (W := fun f => decide (f < 2 ^ 16) && decide (zq_rd (zq_be s P H) 16 f = 0)) (fun f hf => ((wd f).mp hf).1) ((wd 0).mpr ⟨Nat.two_pow_pos 16, zq_rd_0 _ 16⟩)
    (fun a b ha hb => (wd _).mpr ⟨Nat.xor_lt_two_pow ((wd a).mp ha).1 ((wd b).mp hb).1, by rw [zq_rd_x, ((wd a).mp ha).2, ((wd b).mp hb).2, Nat.xor_self]⟩)
    (fun f e hf he => (wd _).mpr ⟨zq_tm_lt f he, zq_ideal G C ((wd f).mp hf).1 he ((wd f).mp hf).2⟩) (fun k hk => ?_) (fun p hp => ?_)
  · constructor
    · intro h
      have l := zq_bd_iff.mp h
      have hh := zq_be_hd G hk l
      exact ⟨zq_be s P H k, (wd _).mpr ⟨Nat.lt_of_lt_of_le hh.2 (zq_2le hk), zq_rd_be ok 16 (Nat.le_refl 16) hk⟩, hh⟩
    · intro h
      obtain ⟨f, hf, hh⟩ := h
      obtain ⟨f1, f2⟩ := (wd f).mp hf
      apply zq_bd_iff.mpr
      refine (zq_be_ne G hk).mp (fun z => ?_)
      have t := zq_rd_top ok hh z 16 (Nat.le_refl 16) hk
      rw [f2, Nat.zero_testBit] at t
      cases t
  · show zq_va Bp p c = true ↔ _
    rw [zq_va_iff]
    constructor
    · intro h
      have all : ∀ n f, f < n → f < 2 ^ 16 → zq_rd (zq_be s P H) 16 f = 0 → zq_vl f p = false := by
        intro n
        induction n with
        | zero => exact fun f hf => absurd hf (by omega)
        | succ n ih =>
          intro f hn f1 f2
          by_cases f0 : f = 0
          · rw [f0]
            exact zq_vl_0 p
          · obtain ⟨m, hm, hh⟩ := zq_hd_of 16 f f0 f1
            have bm : zq_bd s H m = true := by
              apply zq_bd_iff.mpr
              refine (zq_be_ne G hm).mp (fun z => ?_)
              have t := zq_rd_top ok hh z 16 (Nat.le_refl 16) hm
              rw [f2, Nat.zero_testBit] at t
              cases t
            obtain ⟨a, a1, a2, a3⟩ := zq_least _ m (Nat.lt_succ_self m) hm bm
            obtain ⟨j, hj, ej⟩ := L.2 a a1 a3
            have va := h j hj
            rw [ej] at va
            obtain ⟨t1, t2, t3, t4⟩ := zq_t1 a a1 m hm a2
            have hg := zq_hd_tm (zq_ba_hd G a1 ((zq_ls_iff 4).mp a3).1) a1 t4 t1
            rw [t2] at hg
            have wg := zq_ideal G C (zq_ba_lt G a1) t4 (zq_ba_W G a)
            have vg := zq_vl_tm (zq_ba s P H a) t4 hp
            rw [va, Bool.false_and] at vg
            have lt := zq_hd_x hh hg
            have fm : 2 ^ m ≤ f := Nat.ge_two_pow_of_testBit hh.1
            have r := ih (f ^^^ zq_tm (zq_ba s P H a) (zq_mn m a)) (by omega) (Nat.xor_lt_two_pow f1 (zq_tm_lt _ t4)) (by rw [zq_rd_x, f2, wg, Nat.xor_self])
            rw [zq_vl_x, vg, Bool.xor_false] at r
            exact r
      intro f hf
      exact all _ f (Nat.lt_succ_self f) ((wd f).mp hf).1 ((wd f).mp hf).2
    · intro h j hj
      obtain ⟨m, hm, _, e⟩ := L.1 j hj
      rw [e]
      exact h _ (bW m hm)
end
section
/-! ===== learning ===== -/
theorem zq_meq : ∀ m, m < 16 → ∀ v, v < 4 → (zq_mn m (2 ^ v) = m ↔ m.testBit v = false) := by decide +kernel
theorem zq_w_least {post : Int32 → Prop} {pr kn bc bs zs : Int32} {a1 a2 a3 a4 : Nat → Int32} {s m : Nat} {H : Nat → Nat} (hs : s ≤ 32) (hH : zq_ar a3 H s) (h16 : ∀ i, i < s → H i < 16) (hm : m < 16)
    (hp : post (nI (zq_b (zq_ls (zq_bd s H) m 4) 1))) : wpX_leastBound post (pr, kn, nI s, bc, bs, zs, a1, a2, a3, a4) (nI m) := by
  have lp : ∀ k v, v + k = 4 → zq_ls (zq_bd s H) m v = true → wX_leastBound_12 post (nI m) pr kn (nI s) bc bs zs a1 a2 a3 a4 (k + 1) (nI v) := by
    intro k
    induction k with
    | zero =>
      intro v hv h
      have e : v = 4 := by omega
      rw [e] at h ⊢
      rw [h] at hp
      exact pk_le 4 4 (fun _ => hp) (fun z => absurd z (by omega))
    | succ k ih =>
      intro v hv h
      have v4 : v < 4 := by omega
      refine pk_le 4 v (fun z => absurd z (by omega)) (fun _ => nm_r (e' := nI (zq_mn m (2 ^ v))) ?_ ?_)
      · rw [zq_shl v (by omega), zq_imn m hm _ (zq_v4 v v4).1]
      · have lt := zq_mn16 (2 ^ v) hm
        refine pk_eq (zq_mn m (2 ^ v)) m (fun e => nm_r (nI_1 v) (ih (v + 1) (by omega) ?_)) (fun e => ?_)
        · rw [zq_ls, h, (zq_meq m hm v v4).mp e]
          rfl
        · have tb : m.testBit v = true := zq_nbf (fun q => e ((zq_meq m hm v v4).mpr q))
          refine zq_w_div hs hH h16 lt (fun z => br_f (nI_pos (by omega)) ?_) (fun z => br_t (by decide) (nm_r (nI_1 v) (ih (v + 1) (by omega) ?_)))
          · have f : zq_ls (zq_bd s H) m (v + 1) = false := by
              rw [zq_ls, tb, zq_bd_iff.mpr z, Bool.true_and, Bool.not_true, Bool.and_false]
            rw [zq_ls_f f 4 (by omega)] at hp
            exact hp
          · rw [zq_ls, h, tb, zq_nbt (fun q => z (zq_bd_iff.mp q))]
            rfl
  unfold wpX_leastBound
  refine zq_w_div hs hH h16 hm (fun z => br_t (nI_pos' (by omega)) ⟨5, lp 4 0 (by omega) (zq_bd_iff.mpr z)⟩) (fun z => br_f (by decide) ?_)
  have f : zq_ls (zq_bd s H) m 0 = false := zq_nbt (fun q => z (zq_bd_iff.mp q))
  rw [zq_ls_f f 4 (by omega)] at hp
  exact hp
theorem zq_w_van {post : Int32 → Prop} {pr kn sz bs zs : Int32} {a1 a2 a3 a4 : Nat → Int32} {c p : Nat} {Bp : Nat → Nat} (hc : c ≤ 16) (hB : zq_ar a4 Bp c) (hl : ∀ j, j < c → Bp j < 2 ^ 16) (hpt : p < 16)
    (hp : post (nI (zq_b (zq_va Bp p c) 1))) : wpX_vanishes post (pr, kn, sz, nI c, bs, zs, a1, a2, a3, a4) (nI p) := by
  have lp : ∀ k j, j + k = c → zq_va Bp p j = true → wX_vanishes_2 post (nI p) pr kn sz (nI c) bs zs a1 a2 a3 a4 (k + 1) (nI j) := by
    intro k
    induction k with
    | zero =>
      intro j hj h
      have e : j = c := by omega
      rw [e] at h ⊢
      rw [h] at hp
      exact pk_le c c (fun _ => hp) (fun z => absurd z (by omega))
    | succ k ih =>
      intro j hj h
      have jc : j < c := by omega
      refine pk_le c j (fun z => absurd z (by omega)) (fun _ => ⟨pk_in j 16 (by omega), ?_⟩)
      rw [zq_ar_cl hB jc (by omega)]
      refine zq_w_value (hl j jc) hpt ?_
      cases e : zq_vl (Bp j) p
      · exact br_t (by decide) (nm_r (nI_1 j) (ih (j + 1) (by omega) (by rw [zq_va, h, e]; rfl)))
      · have f : zq_va Bp p (j + 1) = false := by
          rw [zq_va, e, Bool.not_true, Bool.and_false]
        rw [zq_va_f f c (by omega)] at hp
        exact br_f (by decide) hp
  unfold wpX_vanishes
  exact ⟨c + 1, lp c 0 (by omega) rfl⟩
theorem zq_w_l114 {post : St1 → Prop} {pr kn sz bs : Int32} {a1 a2 a3 a4 : Nat → Int32} {c : Nat} {Bp : Nat → Nat} (hc : c ≤ 16) (hB : zq_ar a4 Bp c) (hl : ∀ j, j < c → Bp j < 2 ^ 16)
    (hp : post (pr, kn, sz, nI c, bs, nI (zq_bs (fun p => zq_va Bp p c) 16), a1, a2, a3, a4)) : ∃ n, wX_learn_114 post pr kn sz (nI c) bs a1 a2 a3 a4 n 0 0 := by
  refine pk_loop (fun n i s => wX_learn_114 post pr kn sz (nI c) bs a1 a2 a3 a4 n (nI i) (nI s)) (fun i s => s = zq_bs (fun p => zq_va Bp p c) i) 16 0 0 (by omega) rfl ?_ ?_
  · intro n s h
    exact pk_le 16 16 (fun _ => by rw [h]; exact hp) (fun z => absurd z (by omega))
  · intro n i s hi h hw
    refine pk_le 16 i (fun z => absurd z (by omega)) (fun _ => zq_w_van hc hB hl hi ?_)
    cases e : zq_va Bp i c
    · refine br_t (by decide) (nm_r (e' := nI s) ?_ (nm_r (nI_1 i) (hw s ?_)))
      · show nI s ||| nI 0 = nI s
        rw [zq_ior, Nat.or_zero]
      · rw [zq_bs, ← h, e, zq_b_f, Nat.or_zero]
    · refine br_f (by decide) (nm_r (e' := nI (s ||| 2 ^ i)) ?_ (nm_r (nI_1 i) (hw _ ?_)))
      · rw [zq_shl i (by omega), zq_ior]
      · rw [zq_bs, ← h, e, zq_b_t]
/-- a learned state -/
def zq_KN (s : Nat) (P H : Nat → Nat) (Z : Nat → Bool) (st : Nat) (sz bc bs zs : Int32) (a2 a3 : Nat → Int32) : Prop :=
  sz = nI s ∧ zq_D s P H a2 a3 ∧ (st = 0 → s = 0) ∧ bs = nI (zq_bs (zq_bd s H) 16) ∧ bc = nI (zq_ct (fun m => zq_ls (zq_bd s H) m 4) 16) ∧ zs = nI (zq_bs Z 16) ∧ zq_ct Z 16 + zq_ct (zq_bd s H) 16 = 16
theorem zq_w_l33 {post : St1 → Prop} {pr kn zs : Int32} {a1 a2 a3 a4 : Nat → Int32} {s st : Nat} {P H : Nat → Nat} (D : zq_D s P H a2 a3) (C : zq_cl s P H) (q : st = 0 → s = 0)
    (hp : ∀ Z bc bs zs a4', zq_KN s P H Z st (nI s) bc bs zs a2 a3 → post (pr, kn, nI s, bc, bs, zs, a1, a2, a3, a4')) : ∃ n, wX_learn_33 post pr kn (nI s) zs n 0 0 0 a1 a2 a3 a4 := by
  have hD := D
  obtain ⟨hP, hH, G⟩ := D
  have s16 := zq_G16 G
  have h16 : ∀ i, i < s → H i < 16 := fun i hi => (G i hi).1
  refine pk_loop (fun n i (t : (Nat → Nat) × (Nat → Int32)) => wX_learn_33 post pr kn (nI s) zs n (nI i) (nI (zq_ct (fun m => zq_ls (zq_bd s H) m 4) i)) (nI (zq_bs (zq_bd s H) i)) a1 a2 a3 t.2)
    (fun i t => zq_ar t.2 t.1 (zq_ct (fun m => zq_ls (zq_bd s H) m 4) i) ∧ zq_L s P H i (zq_ct (fun m => zq_ls (zq_bd s H) m 4) i) t.1) 16 0 (fun _ => 0, a4) (by omega)
    ⟨fun i hi => absurd hi (by rw [zq_ct]; omega), fun j hj => absurd hj (by rw [zq_ct]; omega), fun m hm => absurd hm (by omega)⟩ ?_ ?_
  · intro n t h
    obtain ⟨hB, L⟩ := h
    refine pk_le 16 16 (fun _ => zq_w_l114 (zq_ct_le _ 16) hB (fun j hj => ?_) (hp _ _ _ _ _ ⟨rfl, hD, q, rfl, rfl, rfl, zq_main G C L⟩)) (fun z => absurd z (by omega))
    obtain ⟨m, hm, _, e⟩ := L.1 j hj
    rw [e]
    exact zq_ba_lt G hm
  · intro n i t hi h hw
    obtain ⟨Bp, b4⟩ := t
    obtain ⟨hB, L⟩ := h
    dsimp only at hB L hw ⊢
    have ci := zq_ct_le (fun m => zq_ls (zq_bd s H) m 4) i
    have W59 : ∀ z0, z0 = nI (zq_b (zq_bd s H i) (2 ^ i)) → wX_learn_59 post (wX_learn_33 post pr kn (nI s) zs n) (nI i) z0 (nI (zq_bs (zq_bd s H) i)) pr kn (nI s) (nI (zq_ct (fun m => zq_ls (zq_bd s H) m 4) i)) (nI (zq_bs (zq_bd s H) i)) zs a1 a2 a3 b4 := by
      intro z0 e0
      unfold wX_learn_59
      refine nm_r (e' := nI (zq_bs (zq_bd s H) (i + 1))) (by rw [e0, zq_ior, zq_bs]) (zq_w_least (by omega) hH h16 hi ?_)
      cases e : zq_ls (zq_bd s H) i 4
      · have cn : zq_ct (fun m => zq_ls (zq_bd s H) m 4) (i + 1) = zq_ct (fun m => zq_ls (zq_bd s H) m 4) i := by
          rw [zq_ct, e]
          rfl
        have r := hw (Bp, b4) (by
          show zq_ar b4 Bp (zq_ct (fun m => zq_ls (zq_bd s H) m 4) (i + 1)) ∧ zq_L s P H (i + 1) (zq_ct (fun m => zq_ls (zq_bd s H) m 4) (i + 1)) Bp
          rw [cn]
          refine ⟨hB, fun j hj => ?_, fun m hm lm => ?_⟩
          · obtain ⟨m, hm, x⟩ := L.1 j hj
            exact ⟨m, by omega, x⟩
          · by_cases em : m = i
            · rw [em, e] at lm
              cases lm
            · exact L.2 m (by omega) lm)
        rw [cn] at r
        exact br_t (by decide) (nm_r (nI_1 i) r)
      · have cn : zq_ct (fun m => zq_ls (zq_bd s H) m 4) (i + 1) = zq_ct (fun m => zq_ls (zq_bd s H) m 4) i + 1 := by
          rw [zq_ct, e]
          rfl
        generalize zq_ct (fun m => zq_ls (zq_bd s H) m 4) i = c at hB L ci cn
        refine br_f (by decide) ?_
        rw [zq_shl i (by omega)]
        refine zq_w_red hP hH G (zq_2lt hi) ⟨pk_in c 16 (by omega), nm_r (e' := upd b4 c (nI (zq_ba s P H i))) (by rw [nI_clamp (by omega), zq_ixor]; rfl) (nm_r (nI_1 c) (nm_r (nI_1 i) ?_))⟩
        have r := hw (zq_at Bp c (zq_ba s P H i), upd b4 c (nI (zq_ba s P H i))) (by
          show zq_ar (upd b4 c (nI (zq_ba s P H i))) (zq_at Bp c (zq_ba s P H i)) (zq_ct (fun m => zq_ls (zq_bd s H) m 4) (i + 1)) ∧ zq_L s P H (i + 1) (zq_ct (fun m => zq_ls (zq_bd s H) m 4) (i + 1)) (zq_at Bp c (zq_ba s P H i))
          rw [cn]
          refine ⟨zq_ar_at hB, fun j hj => ?_, fun m hm lm => ?_⟩
          · by_cases ej : j = c
            · exact ⟨i, by omega, e, by rw [ej, zq_at_s]⟩
            · obtain ⟨m, hm, x, y⟩ := L.1 j (by omega)
              exact ⟨m, by omega, x, by rw [zq_at_n ej, y]⟩
          · by_cases em : m = i
            · exact ⟨c, by omega, by rw [em, zq_at_s]⟩
            · obtain ⟨j, hj, y⟩ := L.2 m (by omega) lm
              exact ⟨j, by omega, by rw [zq_at_n (by omega), y]⟩)
        rw [cn] at r
        exact r
    refine pk_le 16 i (fun z => absurd z (by omega)) (fun _ => zq_w_div (by omega) hH h16 hi (fun z => br_f (nI_pos (by omega)) (W59 _ ?_)) (fun z => br_t (by decide) (W59 _ ?_)))
    · rw [zq_bd_iff.mpr z, zq_b_t, zq_shl i (by omega)]
    · rw [zq_nbt (fun y => z (zq_bd_iff.mp y)), zq_b_f]
      rfl
/-- the given polynomials and the set of those present -/
def zq_gv (st : Nat) (pr : Int32) (a1 : Nat → Int32) : Prop := pr = nI st ∧ st < 64 ∧ ∃ gv : Nat → Nat, zq_ar a1 gv 6 ∧ ∀ i, i < 6 → gv i < 2 ^ 16
theorem zq_w_learn0 {post : St1 → Prop} {pr sz bc bs zs : Int32} {a1 a2 a3 a4 : Nat → Int32} {st : Nat} (g : zq_gv st pr a1)
    (hp : ∀ s P H Z sz bc bs zs a2 a3 a4, zq_KN s P H Z st sz bc bs zs a2 a3 → post (pr, 1, sz, bc, bs, zs, a1, a2, a3, a4)) : wpX_learn post (pr, 0, sz, bc, bs, zs, a1, a2, a3, a4) := by
  obtain ⟨e, h64, gv, g1, g2⟩ := g
  unfold wpX_learn
  rw [e]
  refine br_t rfl (zq_w_complete h64 g1 g2 (fun s P H b2 b3 D C q => zq_w_l33 D C q (fun Z bc bs zs b4 K => ?_)))
  rw [← e]
  exact hp s P H Z _ _ _ _ _ _ _ K
theorem zq_w_learn1 {post : St1 → Prop} {pr sz bc bs zs : Int32} {a1 a2 a3 a4 : Nat → Int32} (hp : post (pr, 1, sz, bc, bs, zs, a1, a2, a3, a4)) : wpX_learn post (pr, 1, sz, bc, bs, zs, a1, a2, a3, a4) :=
  br_f (by decide) hp
end
section
/-! ===== generators: add, remove, a turn ===== -/
/-- what holds between the steps of the law -/
def zq_Iv (pr kn sz bc bs zs : Int32) (a1 a2 a3 : Nat → Int32) : Prop :=
  ∃ st, zq_gv st pr a1 ∧ (kn = 0 ∨ (kn = 1 ∧ ∃ s P H Z, zq_KN s P H Z st sz bc bs zs a2 a3))
theorem zq_w_has {post : Int32 → Prop} {kn sz bc bs zs : Int32} {a1 a2 a3 a4 : Nat → Int32} {st i : Nat} (hst : st < 64) (hi : i < 6) (hp : post (nI (zq_b (st.testBit i) 1))) :
    wpX_has post (nI st, kn, sz, bc, bs, zs, a1, a2, a3, a4) (nI i) := by
  unfold wpX_has
  refine br_f (nI_pos (by omega)) (pk_le 6 i (fun z => absurd z (by omega)) (fun _ => ek_if (zq_bit0 (by omega) (by omega)) (fun hb => ?_) (fun hb => ?_)))
  · rw [hb] at hp
    exact hp
  · rw [zq_nbf hb] at hp
    exact hp
theorem zq_w_has' {post : Int32 → Prop} {kn sz bc bs zs : Int32} {a1 a2 a3 a4 : Nat → Int32} {st : Nat} {x : Int32} (hst : st < 64) (h0 : post 0) (h1 : ∀ i, i < 6 → x = nI i → post 1) :
    wpX_has post (nI st, kn, sz, bc, bs, zs, a1, a2, a3, a4) x := by
  rcases pk_ix x (show 6 < 2 ^ 31 by omega) with h | h | ⟨i, hi, e⟩
  · exact br_t h h0
  · unfold wpX_has
    exact br_c (fun _ => h0) (fun _ => br_t h h0)
  · rw [e]
    refine zq_w_has hst hi ?_
    cases st.testBit i
    · exact h0
    · exact h1 i hi e
theorem zq_w_isp1 {post : Int32 → Prop} {f : Nat} (hf : f < 2 ^ 16) (hp : post 1) : wpX_isPolynomial post () (nI f) :=
  br_f (nI_pos (by omega)) (pk_lt 65535 f (fun z => absurd z (by omega)) (fun _ => hp))
/-- no polynomial -/
def zq_np (x : Int32) : Prop := x < 0 ∨ (¬ x < 0 ∧ 65535 < x)
theorem zq_w_isp0 {post : Int32 → Prop} {x : Int32} (h : zq_np x) (hp : post 0) : wpX_isPolynomial post () x := by
  rcases h with h | ⟨h, g⟩
  · exact br_t h hp
  · exact br_f h (br_t g hp)
theorem zq_poly (x : Int32) : (∃ f, f < 2 ^ 16 ∧ x = nI f) ∨ zq_np x := by
  by_cases h : x < 0
  · exact Or.inr (Or.inl h)
  · obtain ⟨j, hj, e⟩ := nI_of h
    by_cases g : j < 2 ^ 16
    · exact Or.inl ⟨j, g, e⟩
    · refine Or.inr (Or.inr ⟨h, ?_⟩)
      rw [e]
      exact nI_lt (a := 65535) (by omega) hj
theorem zq_or64 : ∀ i, i < 6 → ∀ st, st < 64 → st ||| 2 ^ i < 64 := by decide +kernel
theorem zq_rm64 : ∀ i, i < 6 → ∀ st, st < 64 → nI st &&& (((1 : Int32) <<< (nI i &&& 31)) ^^^ (-1)) = nI (st &&& (63 ^^^ 2 ^ i)) := by decide +kernel
theorem zq_w_add {post : Int32 → St1 → Prop} {pr kn sz bc bs zs : Int32} {a1 a2 a3 a4 : Nat → Int32} {x : Int32} (I : zq_Iv pr kn sz bc bs zs a1 a2 a3)
    (hp : ∀ r pr' kn' a1', zq_Iv pr' kn' sz bc bs zs a1' a2 a3 → post r (pr', kn', sz, bc, bs, zs, a1', a2, a3, a4)) : wpX_add post (pr, kn, sz, bc, bs, zs, a1, a2, a3, a4) x := by
  unfold wpX_add
  rcases zq_poly x with ⟨f, hf, e⟩ | h
  · rw [e]
    refine zq_w_isp1 hf (br_f (by decide) ?_)
    refine pk_loop (σ := Unit) (fun n i _ => wX_add_11 post (nI f) pr kn sz bc bs zs a1 a2 a3 a4 n (nI i)) (fun _ _ => True) 6 0 () (by omega) trivial ?_ ?_
    · intro n _ _
      exact pk_le 6 6 (fun _ => hp _ pr kn a1 I) (fun z => absurd z (by omega))
    · intro n i _ hi _ hw
      obtain ⟨st, ⟨e1, h64, gv, g1, g2⟩, _⟩ := I
      refine pk_le 6 i (fun z => absurd z (by omega)) (fun _ => ?_)
      rw [e1]
      refine zq_w_has h64 hi ?_
      cases st.testBit i
      · refine br_t (by decide) (nm_r (e' := nI (st ||| 2 ^ i)) (by rw [zq_shl i (by omega), zq_ior]) ⟨pk_in i 6 hi, nm_r (e' := upd a1 i (nI f)) (by rw [nI_clamp (by omega)]) (hp _ _ _ _ ⟨st ||| 2 ^ i, ⟨rfl, zq_or64 i hi st h64, zq_at gv i f, fun j hj => ?_, fun j hj => ?_⟩, Or.inl rfl⟩)⟩)
        · by_cases ej : j = i
          · rw [ej, pk_us, zq_at_s]
          · rw [pk_un ej, zq_at_n ej]
            exact g1 j hj
        · by_cases ej : j = i
          · rw [ej, zq_at_s]
            exact hf
          · rw [zq_at_n ej]
            exact g2 j hj
      · refine br_f (by decide) (nm_r (nI_1 i) ?_)
        rw [← e1]
        exact hw () trivial
  · exact zq_w_isp0 h (br_t rfl (hp _ pr kn a1 I))
theorem zq_w_remove {post : Int32 → St1 → Prop} {pr kn sz bc bs zs : Int32} {a1 a2 a3 a4 : Nat → Int32} {x : Int32} (I : zq_Iv pr kn sz bc bs zs a1 a2 a3)
    (hp : ∀ r pr' kn' a1', zq_Iv pr' kn' sz bc bs zs a1' a2 a3 → post r (pr', kn', sz, bc, bs, zs, a1', a2, a3, a4)) : wpX_remove post (pr, kn, sz, bc, bs, zs, a1, a2, a3, a4) x := by
  have I0 := I
  obtain ⟨st, ⟨e1, h64, gv, g1, g2⟩, _⟩ := I
  unfold wpX_remove
  rw [e1] at I0 ⊢
  refine zq_w_has' h64 (br_t rfl (hp _ _ kn a1 I0)) (fun i hi e => br_f (by decide) (nm_r (e' := nI (st &&& (63 ^^^ 2 ^ i))) (by rw [e, zq_rm64 i hi st h64]) (hp _ _ _ _ ⟨_, ⟨rfl, Nat.lt_of_le_of_lt Nat.and_le_left h64, gv, g1, g2⟩, Or.inl rfl⟩)))
theorem zq_w_turn {post : St1 → Prop} {pr kn sz bc bs zs : Int32} {a1 a2 a3 a4 : Nat → Int32} {x y : Int32} (I : zq_Iv pr kn sz bc bs zs a1 a2 a3)
    (hp : ∀ pr' kn' a1', zq_Iv pr' kn' sz bc bs zs a1' a2 a3 → post (pr', kn', sz, bc, bs, zs, a1', a2, a3, a4)) : wpL_turn post (pr, kn, sz, bc, bs, zs, a1, a2, a3, a4) x y := by
  unfold wpL_turn
  refine br_c (fun _ => zq_w_remove I (fun _ pr' kn' a1' I' => hp pr' kn' a1' I')) (fun _ => br_c (fun _ => ?_) (fun _ => ?_))
  · unfold wL_turn_24
    exact zq_w_add I (fun _ pr' kn' a1' I' => hp pr' kn' a1' I')
  · unfold wL_turn_24
    exact zq_w_add I (fun _ pr' kn' a1' I' => hp pr' kn' a1' I')
end
section
/-! ===== questions to a learned state ===== -/
theorem zq_ctS (Z : Nat → Bool) (i : Nat) : zq_ct Z (i + 1) = zq_ct Z i + zq_b (Z i) 1 := rfl
theorem zq_bs31 (Z : Nat → Bool) : zq_bs Z 16 < 2 ^ 31 := Nat.lt_trans (zq_bs_lt Z 16) (by decide)
theorem zq_q_count {post : Int32 → St1 → Prop} {pr sz bc bs : Int32} {a1 a2 a3 a4 : Nat → Int32} {Z : Nat → Bool} (hp : post (nI (zq_ct Z 16)) (pr, 1, sz, bc, bs, nI (zq_bs Z 16), a1, a2, a3, a4)) :
    wpX_zeroCount post (pr, 1, sz, bc, bs, nI (zq_bs Z 16), a1, a2, a3, a4) := by
  unfold wpX_zeroCount
  refine zq_w_learn1 ?_
  refine pk_loop (fun n i c => wX_zeroCount_8 post pr 1 sz bc bs (nI (zq_bs Z 16)) a1 a2 a3 a4 n (nI c) (nI i)) (fun i c => c = zq_ct Z i) 16 0 0 (by omega) rfl ?_ ?_
  · intro n c h
    exact pk_le 16 16 (fun _ => by rw [h]; exact hp) (fun z => absurd z (by omega))
  · intro n i c hi h hw
    refine pk_le 16 i (fun z => absurd z (by omega)) (fun _ => nm_r (e' := nI (c + zq_b (Z i) 1)) ?_ (nm_r (nI_1 i) (hw _ ?_)))
    · rw [zq_bit (zq_bs31 Z) (by omega), zq_bs_b Z hi, nI_add]
    · rw [zq_ctS, h]
theorem zq_q_ones {post : Int32 → Prop} {Z : Nat → Bool} (hp : post (nI (zq_ct Z 16))) : wpL_ones post () (nI (zq_bs Z 16)) := by
  refine pk_loop (fun n i c => wL_ones_4 post (nI (zq_bs Z 16)) n (nI c) (nI i)) (fun i c => c = zq_ct Z i) 16 0 0 (by omega) rfl ?_ ?_
  · intro n c h
    exact pk_le 16 16 (fun _ => by rw [h]; exact hp) (fun z => absurd z (by omega))
  · intro n i c hi h hw
    refine pk_le 16 i (fun z => absurd z (by omega)) (fun _ => nm_r (e' := nI (c + zq_b (Z i) 1)) ?_ (nm_r (nI_1 i) (hw _ ?_)))
    · rw [zq_bit (zq_bs31 Z) (by omega), zq_bs_b Z hi, nI_add]
    · rw [zq_ctS, h]
theorem zq_q_bound {post : Int32 → St1 → Prop} {pr sz bc bs zs : Int32} {a1 a2 a3 a4 : Nat → Int32} (hp : post bs (pr, 1, sz, bc, bs, zs, a1, a2, a3, a4)) : wpX_bound post (pr, 1, sz, bc, bs, zs, a1, a2, a3, a4) := by
  unfold wpX_bound
  exact zq_w_learn1 hp
theorem zq_q_bsize {post : Int32 → St1 → Prop} {pr sz bc bs zs : Int32} {a1 a2 a3 a4 : Nat → Int32} (hp : post bc (pr, 1, sz, bc, bs, zs, a1, a2, a3, a4)) : wpX_basisSize post (pr, 1, sz, bc, bs, zs, a1, a2, a3, a4) := by
  unfold wpX_basisSize
  exact zq_w_learn1 hp
theorem zq_q_bat {post : Int32 → St1 → Prop} {pr sz bc bs zs : Int32} {a1 a2 a3 a4 : Nat → Int32} (hp : post (-1) (pr, 1, sz, bc, bs, zs, a1, a2, a3, a4)) : wpX_basisAt post (pr, 1, sz, bc, bs, zs, a1, a2, a3, a4) (-1) := by
  unfold wpX_basisAt
  exact zq_w_learn1 (br_t (by decide) hp)
theorem zq_q_rest {post : Int32 → St1 → Prop} {pr bc bs zs : Int32} {a1 a2 a3 a4 : Nat → Int32} {s f : Nat} {P H : Nat → Nat} (D : zq_D s P H a2 a3) (hf : f < 2 ^ 16) (hp : post (nI (zq_rd (zq_be s P H) 16 f)) (pr, 1, nI s, bc, bs, zs, a1, a2, a3, a4)) :
    wpX_rest post (pr, 1, nI s, bc, bs, zs, a1, a2, a3, a4) (nI f) := by
  unfold wpX_rest
  exact zq_w_isp1 hf (br_f (by decide) (zq_w_learn1 (zq_w_red D.1 D.2.1 D.2.2 hf hp)))
theorem zq_q_rest0 {post : Int32 → St1 → Prop} {pr sz bc bs zs : Int32} {a1 a2 a3 a4 : Nat → Int32} {x : Int32} (h : zq_np x) (hp : post (-1) (pr, 1, sz, bc, bs, zs, a1, a2, a3, a4)) :
    wpX_rest post (pr, 1, sz, bc, bs, zs, a1, a2, a3, a4) x := by
  unfold wpX_rest
  exact zq_w_isp0 h (br_t rfl hp)
theorem zq_q_cont {post : Int32 → St1 → Prop} {pr bc bs zs : Int32} {a1 a2 a3 a4 : Nat → Int32} {s f : Nat} {P H : Nat → Nat} (D : zq_D s P H a2 a3) (hf : f < 2 ^ 16)
    (hp : post (nI (zq_b (decide (zq_rd (zq_be s P H) 16 f = 0)) 1)) (pr, 1, nI s, bc, bs, zs, a1, a2, a3, a4)) : wpX_contains post (pr, 1, nI s, bc, bs, zs, a1, a2, a3, a4) (nI f) := by
  unfold wpX_contains
  have rl := zq_rd_lt (zq_be_ok D.2.2) 16 (Nat.le_refl 16) f hf
  refine zq_w_isp1 hf (br_f (by decide) (zq_w_learn1 (zq_w_red D.1 D.2.1 D.2.2 hf (pk_eq (zq_rd (zq_be s P H) 16 f) 0 (fun e => ?_) (fun e => ?_)))))
  · rw [decide_eq_true e] at hp
    exact hp
  · rw [decide_eq_false e] at hp
    exact hp
theorem zq_q_cont0 {post : Int32 → St1 → Prop} {pr sz bc bs zs : Int32} {a1 a2 a3 a4 : Nat → Int32} {x : Int32} (h : zq_np x) (hp : post 0 (pr, 1, sz, bc, bs, zs, a1, a2, a3, a4)) :
    wpX_contains post (pr, 1, sz, bc, bs, zs, a1, a2, a3, a4) x := by
  unfold wpX_contains
  exact zq_w_isp0 h (br_t rfl hp)
theorem zq_q_prod {post : Int32 → Prop} {pr kn sz bc bs zs : Int32} {a1 a2 a3 a4 : Nat → Int32} {f g : Nat} (hf : f < 2 ^ 16) (hg : g < 2 ^ 16) (hp : post (nI (zq_pr f g))) :
    wpX_product post (pr, kn, sz, bc, bs, zs, a1, a2, a3, a4) (nI f) (nI g) := by
  unfold wpX_product
  refine zq_w_isp1 hf (br_f (by decide) (zq_w_isp1 hg (br_f (by decide) ?_)))
  refine pk_loop (fun n i r => wX_product_21 post (nI f) (nI g) pr kn sz bc bs zs a1 a2 a3 a4 n (nI r) (nI i)) (fun i r => r = zq_pk f g i) 16 0 0 (by omega) rfl ?_ ?_
  · intro n r h
    exact pk_le 16 16 (fun _ => by rw [h]; exact hp) (fun z => absurd z (by omega))
  · intro n i r hi h hw
    refine pk_le 16 i (fun z => absurd z (by omega)) (fun _ => ek_if (zq_bit0 (by omega) (by omega)) (fun hb => nm_r (nI_1 i) (hw r ?_)) (fun hb => zq_w_times hf hi (nm_r (zq_ixor _ _) (nm_r (nI_1 i) (hw _ ?_)))))
    · rw [zq_pk, hb, zq_b_f, Nat.xor_zero, h]
    · rw [zq_pk, zq_nbf hb, zq_b_t, h]
theorem zq_q_prod0 {post : Int32 → Prop} {pr kn sz bc bs zs : Int32} {a1 a2 a3 a4 : Nat → Int32} {x y : Int32} (h : zq_np x) (hp : post (-1)) : wpX_product post (pr, kn, sz, bc, bs, zs, a1, a2, a3, a4) x y := by
  unfold wpX_product
  exact zq_w_isp0 h (br_t rfl hp)
theorem zq_q_val0 {post : Int32 → Prop} {pr kn sz bc bs zs : Int32} {a1 a2 a3 a4 : Nat → Int32} {x y : Int32} (h : zq_np x) (hp : post (-1)) : wpX_value post (pr, kn, sz, bc, bs, zs, a1, a2, a3, a4) x y := by
  unfold wpX_value
  exact zq_w_isp0 h (br_t rfl hp)
/-! or over the members of Z -/
def zq_of (Z : Nat → Bool) (g : Nat → Nat) : Nat → Nat
  | 0 => 0
  | k + 1 => zq_of Z g k ||| zq_b (Z k) (2 ^ g k)
theorem zq_of_tb {Z : Nat → Bool} {g : Nat → Nat} {q : Nat} : ∀ k, (zq_of Z g k).testBit q = true ↔ ∃ p, p < k ∧ Z p = true ∧ g p = q := by
  intro k
  induction k with
  | zero =>
    rw [zq_of, Nat.zero_testBit]
    constructor
    · intro h
      cases h
    · intro h
      obtain ⟨p, hp, _⟩ := h
      exact absurd hp (by omega)
  | succ k ih =>
    rw [zq_of, Nat.testBit_or, Bool.or_eq_true, ih, zq_b_tb, Bool.and_eq_true, Nat.testBit_two_pow, decide_eq_true_iff]
    constructor
    · intro h
      rcases h with ⟨p, hp, x⟩ | h
      · exact ⟨p, by omega, x⟩
      · exact ⟨k, by omega, h⟩
    · intro h
      obtain ⟨p, hp, x⟩ := h
      by_cases e : p = k
      · rw [e] at x
        exact Or.inr x
      · exact Or.inl ⟨p, by omega, x⟩
theorem zq_of_lt {Z : Nat → Bool} {g : Nat → Nat} {n : Nat} : ∀ k, (∀ p, p < k → g p < n) → zq_of Z g k < 2 ^ n := by
  intro k
  induction k with
  | zero => exact fun _ => Nat.two_pow_pos n
  | succ k ih =>
    intro h
    rw [zq_of]
    exact Nat.or_lt_two_pow (ih (fun p hp => h p (by omega))) (zq_b_lt (fun _ => zq_2lt (h k (by omega))))
theorem zq_an16 {a : Nat} (b : Nat) (ha : a < 16) : a &&& b < 16 := Nat.lt_of_le_of_lt Nat.and_le_left ha
/-- some q below k within vars is not in sn -/
def zq_rl (sn vars : Nat) : Nat → Bool
  | 0 => false
  | k + 1 => zq_rl sn vars k || (decide (k &&& vars = k) && !sn.testBit k)
theorem zq_rl_iff {sn vars : Nat} : ∀ k, zq_rl sn vars k = true ↔ ∃ q, q < k ∧ q &&& vars = q ∧ sn.testBit q = false := by
  intro k
  induction k with
  | zero =>
    constructor
    · intro h
      cases h
    · intro h
      obtain ⟨p, hp, _⟩ := h
      exact absurd hp (by omega)
  | succ k ih =>
    rw [zq_rl, Bool.or_eq_true, ih, Bool.and_eq_true, decide_eq_true_iff, Bool.not_eq_true']
    constructor
    · intro h
      rcases h with ⟨p, hp, x⟩ | h
      · exact ⟨p, by omega, x⟩
      · exact ⟨k, by omega, h⟩
    · intro h
      obtain ⟨p, hp, x⟩ := h
      by_cases e : p = k
      · rw [e] at x
        exact Or.inr x
      · exact Or.inl ⟨p, by omega, x⟩
theorem zq_rl_t {sn vars k : Nat} (h : zq_rl sn vars k = true) {j : Nat} (hj : k ≤ j) : zq_rl sn vars j = true := by
  obtain ⟨q, hq, x⟩ := (zq_rl_iff k).mp h
  exact (zq_rl_iff j).mpr ⟨q, by omega, x⟩
theorem zq_q_r53 {post : Int32 → St1 → Prop} {pr kn sz bc bs zs : Int32} {a1 a2 a3 a4 : Nat → Int32} {sn vars : Nat} (hs : sn < 2 ^ 16) (hv : vars < 16)
    (hp : post (nI (zq_b (zq_rl sn vars 16) 1)) (pr, kn, sz, bc, bs, zs, a1, a2, a3, a4)) : ∀ k j, j + k = 16 → zq_rl sn vars j = false → wX_relates_53 post (nI vars) (nI sn) pr kn sz bc bs zs a1 a2 a3 a4 (k + 1) (nI j) := by
  intro k
  induction k with
  | zero =>
    intro j hj h
    have e : j = 16 := by omega
    rw [e] at h ⊢
    rw [h] at hp
    exact pk_le 16 16 (fun _ => hp) (fun z => absurd z (by omega))
  | succ k ih =>
    intro j hj h
    refine pk_le 16 j (fun z => absurd z (by omega)) (fun _ => ek_if (zq_idv j (by omega) vars hv) (fun hb => ek_if (zq_bit0 (by omega) (by omega)) (fun hc => ?_) (fun hc => nm_r (nI_1 j) (ih (j + 1) (by omega) ?_))) (fun hb => nm_r (nI_1 j) (ih (j + 1) (by omega) ?_)))
    · have t : zq_rl sn vars (j + 1) = true := by
        rw [zq_rl, decide_eq_true hb, hc, Bool.not_false, Bool.and_true, Bool.or_true]
      rw [zq_rl_t t (by omega)] at hp
      exact hp
    · rw [zq_rl, h, zq_nbf hc, Bool.not_true, Bool.and_false, Bool.or_false]
    · rw [zq_rl, h, decide_eq_false hb, Bool.false_and, Bool.or_false]
theorem zq_q_rel {post : Int32 → St1 → Prop} {pr sz bc bs : Int32} {a1 a2 a3 a4 : Nat → Int32} {Z : Nat → Bool} {vars : Nat} (hv : vars < 16)
    (hp : post (nI (zq_b (zq_rl (zq_of Z (fun p => p &&& vars) 16) vars 16) 1)) (pr, 1, sz, bc, bs, nI (zq_bs Z 16), a1, a2, a3, a4)) : wpX_relates post (pr, 1, sz, bc, bs, nI (zq_bs Z 16), a1, a2, a3, a4) (nI vars) := by
  unfold wpX_relates
  refine br_f (nI_pos (by omega)) (pk_lt vars 16 (fun _ => zq_w_learn1 ?_) (fun z => absurd z (by omega)))
  refine pk_loop (fun n i r => wX_relates_20 post (nI vars) pr 1 sz bc bs (nI (zq_bs Z 16)) a1 a2 a3 a4 n (nI r) (nI i)) (fun i r => r = zq_of Z (fun p => p &&& vars) i) 16 0 0 (by omega) rfl ?_ ?_
  · intro n r h
    refine pk_le 16 16 (fun _ => ⟨17, ?_⟩) (fun z => absurd z (by omega))
    rw [h]
    exact zq_q_r53 (zq_of_lt 16 (fun p hp => zq_an16 vars hp)) hv hp 16 0 (by omega) rfl
  · intro n i r hi h hw
    refine pk_le 16 i (fun z => absurd z (by omega)) (fun _ => ek_if (zq_bit0 (zq_bs31 Z) (by omega)) (fun hb => nm_r (nI_1 i) (hw r ?_)) (fun hb => nm_r (e' := nI (r ||| 2 ^ (i &&& vars))) ?_ (nm_r (nI_1 i) (hw _ ?_))))
    · rw [zq_bs_b Z hi] at hb
      rw [zq_of, hb, zq_b_f, Nat.or_zero, h]
    · rw [zq_iand, zq_shl _ (Nat.lt_trans (zq_an16 vars hi) (by omega)), zq_ior]
    · rw [zq_bs_b Z hi] at hb
      rw [zq_of, zq_nbf hb, zq_b_t, h]
theorem zq_q_rel16 {post : Int32 → St1 → Prop} {pr kn sz bc bs zs : Int32} {a1 a2 a3 a4 : Nat → Int32} (hp : post 0 (pr, kn, sz, bc, bs, zs, a1, a2, a3, a4)) : wpX_relates post (pr, kn, sz, bc, bs, zs, a1, a2, a3, a4) 16 := by
  unfold wpX_relates
  exact br_f (by decide) (br_f (by decide) hp)
theorem zq_q_vals {post : Int32 → St1 → Prop} {pr sz bc bs : Int32} {a1 a2 a3 a4 : Nat → Int32} {Z : Nat → Bool} {v : Nat} (hv : v < 4)
    (hp : post (nI (zq_of Z (fun p => zq_b (p.testBit v) 1) 16)) (pr, 1, sz, bc, bs, nI (zq_bs Z 16), a1, a2, a3, a4)) : wpX_values post (pr, 1, sz, bc, bs, nI (zq_bs Z 16), a1, a2, a3, a4) (nI v) := by
  unfold wpX_values
  refine br_f (nI_pos (by omega)) (pk_le v 3 (fun _ => zq_w_learn1 ?_) (fun z => absurd z (by omega)))
  refine pk_loop (fun n i r => wX_values_19 post (nI v) pr 1 sz bc bs (nI (zq_bs Z 16)) a1 a2 a3 a4 n (nI r) (nI i)) (fun i r => r = zq_of Z (fun p => zq_b (p.testBit v) 1) i) 16 0 0 (by omega) rfl ?_ ?_
  · intro n r h
    exact pk_le 16 16 (fun _ => by rw [h]; exact hp) (fun z => absurd z (by omega))
  · intro n i r hi h hw
    refine pk_le 16 i (fun z => absurd z (by omega)) (fun _ => ek_if (zq_bit0 (zq_bs31 Z) (by omega)) (fun hb => nm_r (nI_1 i) (hw r ?_)) (fun hb => nm_r (e' := nI (r ||| 2 ^ zq_b (i.testBit v) 1)) ?_ (nm_r (nI_1 i) (hw _ ?_))))
    · rw [zq_bs_b Z hi] at hb
      rw [zq_of, hb, zq_b_f, Nat.or_zero, h]
    · rw [zq_bit (by omega) (by omega), zq_shl _ (by cases i.testBit v <;> decide), zq_ior]
    · rw [zq_bs_b Z hi] at hb
      rw [zq_of, zq_nbf hb, zq_b_t, h]
theorem zq_q_vals0 {post : Int32 → St1 → Prop} {pr kn sz bc bs zs : Int32} {a1 a2 a3 a4 : Nat → Int32} {x : Int32} (h : x < 0 ∨ (¬ x < 0 ∧ ¬ x ≤ 3)) (hp : post 0 (pr, kn, sz, bc, bs, zs, a1, a2, a3, a4)) : wpX_values post (pr, kn, sz, bc, bs, zs, a1, a2, a3, a4) x := by
  unfold wpX_values
  rcases h with h | ⟨h, g⟩
  · exact br_t h hp
  · exact br_f h (br_f g hp)
end
section
/-! ===== the law's own methods: heads, polynomial ===== -/
theorem zq_bd_up {s : Nat} {H : Nat → Nat} (h16 : ∀ i, i < s → H i < 16) {m v : Nat} (hm : m < 16) (hv : v < 4) (ht : m.testBit v = true) (hb : zq_bd s H (zq_mn m (2 ^ v)) = true) : zq_bd s H m = true := by
  have l := zq_bd_iff.mp hb
  obtain ⟨_, d2, _⟩ := zq_fd_spec H (zq_mn m (2 ^ v)) s
  exact zq_bd_iff.mpr (zq_fd_ex l ((zq_mlt m hm v hv ht).2 _ (h16 _ l) (d2 l)))
theorem zq_h75 {post : Int32 → St1 → Prop} {J9 J38 : Int32 → Int32 → Prop} {x1 x2 x3 pr kn sz bc bs zs : Int32} {a1 a2 a3 a4 : Nat → Int32} {ft lz on : Bool} {v : Nat} (ho : lz = true → on = true) (hJ : J38 (nI (zq_b (ft && !lz) 1)) (nI (v + 1))) :
    wL_heads_75 post J9 J38 x1 x2 x3 (nI (zq_b on 1)) (nI (zq_b ft 1)) (nI v) (nI (zq_b lz 1)) pr kn sz bc bs zs a1 a2 a3 a4 := by
  have h92 : wL_heads_92 post J9 J38 x1 x2 x3 (nI (zq_b on 1)) (nI v) (nI (zq_b lz 1)) (nI (zq_b (ft && !lz) 1)) pr kn sz bc bs zs a1 a2 a3 a4 := by
    unfold wL_heads_92
    cases lz
    · exact br_t (by decide) (nm_r (nI_1 v) hJ)
    · rw [ho rfl]
      exact br_f (by decide) (br_f (by decide) (nm_r (nI_1 v) hJ))
  unfold wL_heads_75 wL_heads_91
  cases ft
  · exact br_t (by decide) h92
  · cases lz
    · exact br_f (by decide) (br_t (by decide) h92)
    · exact br_f (by decide) (br_f (by decide) h92)
theorem zq_h38 {post : Int32 → St1 → Prop} {J9 : Int32 → Int32 → Prop} {pr kn sz bc bs zs : Int32} {a1 a2 a3 a4 : Nat → Int32} {s m c : Nat} {H : Nat → Nat} (h16 : ∀ i, i < s → H i < 16) (hm : m < 16)
    (hJ : J9 (nI (c + zq_b (zq_ls (zq_bd s H) m 4) 1)) (nI (m + 1))) : ∃ n, wL_heads_38 post J9 (nI (zq_bs (zq_bd s H) 16)) (nI c) (nI m) (nI (zq_b (zq_bd s H m) 1)) pr kn sz bc bs zs a1 a2 a3 a4 n (nI (zq_b (zq_bd s H m) 1)) 0 := by
  refine pk_loop (fun n v ft => wL_heads_38 post J9 (nI (zq_bs (zq_bd s H) 16)) (nI c) (nI m) (nI (zq_b (zq_bd s H m) 1)) pr kn sz bc bs zs a1 a2 a3 a4 n (nI (zq_b ft 1)) (nI v)) (fun v ft => ft = zq_ls (zq_bd s H) m v) 4 0 (zq_bd s H m) (by omega) rfl ?_ ?_
  · intro n ft h
    rw [← h] at hJ
    refine pk_le 4 4 (fun _ => ?_) (fun z => absurd z (by omega))
    cases ft
    · exact br_t (by decide) (nm_r (nI_1 m) hJ)
    · exact br_f (by decide) (nm_r (nI_1 c) (nm_r (nI_1 m) hJ))
  · intro n v ft hv h hw
    have lt := zq_mn16 (2 ^ v) hm
    have c2 : ((nI (zq_bs (zq_bd s H) 16) >>> ((nI m &&& (((1 : Int32) <<< (nI v &&& 31)) ^^^ (-1))) &&& 31)) &&& 1) = 1 ↔ zq_bd s H (zq_mn m (2 ^ v)) = true := by
      rw [zq_shl v (by omega), zq_imn m hm _ (zq_v4 v hv).1, zq_bit1 (zq_bs31 _) (by omega), zq_bs_b _ lt]
    have lz : ∀ l : Bool, l = (m.testBit v && zq_bd s H (zq_mn m (2 ^ v))) → wL_heads_38 post J9 (nI (zq_bs (zq_bd s H) 16)) (nI c) (nI m) (nI (zq_b (zq_bd s H m) 1)) pr kn sz bc bs zs a1 a2 a3 a4 n (nI (zq_b (ft && !l) 1)) (nI (v + 1)) := by
      intro l hl
      refine hw (ft && !l) ?_
      rw [zq_ls, ← hl, h]
    refine pk_le 4 v (fun z => absurd z (by omega)) (fun _ => ek_if (zq_bit1 (by omega) (by omega)) (fun hb => ek_if c2 (fun hc => ?_) (fun hc => ?_)) (fun hb => ?_))
    · exact zq_h75 (lz := true) (fun _ => zq_bd_up h16 hm hv hb hc) (lz true (by rw [hb, hc]; rfl))
    · unfold wL_heads_74
      exact zq_h75 (lz := false) (fun z => absurd z (by decide)) (lz false (by rw [zq_nbt hc, Bool.and_false]))
    · unfold wL_heads_74
      exact zq_h75 (lz := false) (fun z => absurd z (by decide)) (lz false (by rw [zq_nbt hb, Bool.false_and]))
theorem zq_q_heads {post : Int32 → St1 → Prop} {pr sz zs : Int32} {a1 a2 a3 a4 : Nat → Int32} {s : Nat} {H : Nat → Nat} (h16 : ∀ i, i < s → H i < 16)
    (hp : post 1 (pr, 1, sz, nI (zq_ct (fun m => zq_ls (zq_bd s H) m 4) 16), nI (zq_bs (zq_bd s H) 16), zs, a1, a2, a3, a4)) :
    wpL_heads post (pr, 1, sz, nI (zq_ct (fun m => zq_ls (zq_bd s H) m 4) 16), nI (zq_bs (zq_bd s H) 16), zs, a1, a2, a3, a4) := by
  unfold wpL_heads
  refine zq_q_bound ?_
  refine pk_loop (fun n m c => wL_heads_9 post (nI (zq_bs (zq_bd s H) 16)) pr 1 sz (nI (zq_ct (fun m => zq_ls (zq_bd s H) m 4) 16)) (nI (zq_bs (zq_bd s H) 16)) zs a1 a2 a3 a4 n (nI c) (nI m)) (fun m c => c = zq_ct (fun m => zq_ls (zq_bd s H) m 4) m) 16 0 0 (by omega) rfl ?_ ?_
  · intro n c h
    have bl := zq_bs_lt (zq_bd s H) 16
    refine pk_le 16 16 (fun _ => zq_q_bsize (br_t (by rw [h]) (br_f (nI_pos (zq_bs31 _)) ?_))) (fun z => absurd z (by omega))
    generalize zq_bs (zq_bd s H) 16 = w at bl hp
    exact pk_le 65536 w (fun z => absurd z (by omega)) (fun _ => hp)
  · intro n m c hm h hw
    have J := hw (c + zq_b (zq_ls (zq_bd s H) m 4) 1) (by rw [zq_ctS, h])
    refine pk_le 16 m (fun z => absurd z (by omega)) (fun _ => ek_if (zq_bit1 (zq_bs31 _) (by omega)) (fun hb => ?_) (fun hb => ?_))
    · rw [zq_bs_b _ hm] at hb
      have r := zq_h38 (post := post) (pr := pr) (kn := 1) (sz := sz) (bc := nI (zq_ct (fun m => zq_ls (zq_bd s H) m 4) 16)) (bs := nI (zq_bs (zq_bd s H) 16)) (zs := zs) (a1 := a1) (a2 := a2) (a3 := a3) (a4 := a4) (c := c) h16 hm J
      rw [hb] at r
      exact r
    · rw [zq_bs_b _ hm] at hb
      have r := zq_h38 (post := post) (pr := pr) (kn := 1) (sz := sz) (bc := nI (zq_ct (fun m => zq_ls (zq_bd s H) m 4) 16)) (bs := nI (zq_bs (zq_bd s H) 16)) (zs := zs) (a1 := a1) (a2 := a2) (a3 := a3) (a4 := a4) (c := c) h16 hm J
      rw [zq_nbt hb] at r
      exact r
theorem zq_p98 {post : Int32 → St1 → Prop} {pr kn sz bc bs zs z : Int32} {a1 a2 a3 a4 : Nat → Int32} {f : Nat} (hf : f < 2 ^ 16) (hp : post 1 (pr, kn, sz, bc, bs, zs, a1, a2, a3, a4)) : wL_polynomial_98 post (nI f) z z pr kn sz bc bs zs a1 a2 a3 a4 := by
  unfold wL_polynomial_98
  refine br_t rfl (zq_q_prod (g := 1) hf (by decide) (br_t (by rw [zq_pr_one hf]) (zq_q_prod hf hf (br_t (by rw [zq_pr_sq hf]) (zq_q_prod (f := 0) (by decide) hf (br_t ?_ hp))))))
  rw [zq_pr_zero]
  rfl
theorem zq_rb0 {s f : Nat} {P H : Nat → Nat} (G : zq_G s P H) : zq_rd (zq_be s P H) 16 f &&& zq_bs (zq_bd s H) 16 = 0 := by
  apply Nat.eq_of_testBit_eq
  intro i
  rw [Nat.testBit_and, Nat.zero_testBit, zq_bs_tb]
  by_cases hi : i < 16
  · cases e : zq_bd s H i
    · rw [Bool.and_false, Bool.and_false]
    · rw [zq_rd_clear (zq_be_ok G) 16 (Nat.le_refl 16) f i hi ((zq_be_ne G hi).mpr (zq_bd_iff.mp e)), Bool.false_and]
  · rw [decide_eq_false hi, Bool.false_and, Bool.and_false]
theorem zq_q_poly {post : Int32 → St1 → Prop} {pr bc zs : Int32} {a1 a2 a3 a4 : Nat → Int32} {s : Nat} {P H : Nat → Nat} (D : zq_D s P H a2 a3) (x : Int32)
    (hp : post 1 (pr, 1, nI s, bc, nI (zq_bs (zq_bd s H) 16), zs, a1, a2, a3, a4)) : wpL_polynomial post (pr, 1, nI s, bc, nI (zq_bs (zq_bd s H) 16), zs, a1, a2, a3, a4) x := by
  unfold wpL_polynomial
  rcases zq_poly x with ⟨f, hf, e⟩ | h
  · rw [e]
    have rl := zq_rd_lt (zq_be_ok D.2.2) 16 (Nat.le_refl 16) f hf
    have rb := zq_rb0 (f := f) D.2.2
    refine zq_q_rest D hf (br_f (nI_pos (by omega)) (pk_lt 65535 f (fun z => absurd z (by omega)) (fun _ => ?_)))
    unfold wL_polynomial_21
    refine br_f (by decide) (br_f (nI_pos (by omega)) (pk_le 65536 (zq_rd (zq_be s P H) 16 f) (fun z => absurd z (by omega)) (fun _ => zq_q_bound (br_t (by rw [zq_iand, rb]; rfl) (zq_q_cont D hf ?_)))))
    refine pk_eq (zq_rd (zq_be s P H) 16 f) 0 (fun e => ?_) (fun e => ?_)
    · rw [decide_eq_true e]
      exact zq_p98 (z := 1) hf hp
    · rw [decide_eq_false e]
      exact zq_p98 (z := 0) hf hp
  · refine zq_q_rest0 h ?_
    have b : wL_polynomial_20 post x (-1) pr 1 (nI s) bc (nI (zq_bs (zq_bd s H) 16)) zs a1 a2 a3 a4 := by
      unfold wL_polynomial_20 wL_polynomial_21
      exact br_t rfl (br_t rfl (zq_q_cont0 h (br_t rfl (zq_q_prod0 h (br_t rfl (zq_q_val0 h (br_t rfl hp)))))))
    rcases h with h | ⟨h, g⟩
    · exact br_t h b
    · exact br_f h (br_t g b)
end
section
/-! ===== what the law says of the set of zeros ===== -/
theorem zq_ct0 {Z : Nat → Bool} : zq_ct Z 16 = 0 ↔ ∀ p, p < 16 → Z p = false := by
  constructor
  · intro h p hp
    apply zq_nbt
    intro t
    have := zq_ct_pos 16 p hp t
    omega
  · exact fun h => zq_ct_non 16 h
theorem zq_ct16 {Z : Nat → Bool} : zq_ct Z 16 < 16 ↔ ∃ p, p < 16 ∧ Z p = false := by
  constructor
  · intro h
    refine Classical.byContradiction (fun n => ?_)
    have := zq_ct_all (S := Z) 16 (fun i hi => zq_nbf (fun q => n ⟨i, hi, q⟩))
    omega
  · intro h
    obtain ⟨p, hp, e⟩ := h
    have a := zq_ct_not Z 16
    have b := zq_ct_pos (S := fun i => !Z i) 16 p hp (by show (!Z p) = true; rw [e]; rfl)
    omega
theorem zq_vs_lt (Z : Nat → Bool) (v : Nat) : zq_of Z (fun p => zq_b (p.testBit v) 1) 16 < 4 :=
  zq_of_lt (n := 2) 16 (fun p _ => by cases h : p.testBit v <;> decide)
theorem zq_vs_0 (Z : Nat → Bool) (v : Nat) : zq_of Z (fun p => zq_b (p.testBit v) 1) 16 = 0 ↔ zq_ct Z 16 = 0 := by
  rw [zq_ct0]
  constructor
  · intro h p hp
    apply zq_nbt
    intro t
    have := (zq_of_tb (Z := Z) (g := fun p => zq_b (p.testBit v) 1) 16).mpr ⟨p, hp, t, rfl⟩
    rw [h, Nat.zero_testBit] at this
    cases this
  · intro h
    apply Nat.eq_of_testBit_eq
    intro i
    rw [Nat.zero_testBit]
    apply zq_nbt
    intro t
    obtain ⟨p, hp, hz, _⟩ := (zq_of_tb 16).mp t
    rw [h p hp] at hz
    cases hz
theorem zq_s4 : ∀ S, S < 4 → (S = 3 ↔ S.testBit 0 = true ∧ S.testBit 1 = true) := by decide +kernel
theorem zq_s5 : ∀ v, v < 4 → ∀ q, q < 16 → q &&& 2 ^ v = q → q = 0 ∨ q = 2 ^ v := by decide +kernel
theorem zq_s6 : ∀ v, v < 4 → ∀ p, p < 16 → (p &&& 2 ^ v = 0 ↔ zq_b (p.testBit v) 1 = 0) ∧ (p &&& 2 ^ v = 2 ^ v ↔ zq_b (p.testBit v) 1 = 1) := by decide +kernel
theorem zq_s7 : ∀ v, v < 4 → 2 ^ v < 16 ∧ 2 ^ v &&& 2 ^ v = 2 ^ v := by decide +kernel
theorem zq_rel1 (Z : Nat → Bool) {v : Nat} (hv : v < 4) : zq_rl (zq_of Z (fun p => p &&& 2 ^ v) 16) (2 ^ v) 16 = !decide (zq_of Z (fun p => zq_b (p.testBit v) 1) 16 = 3) := by
  have t0 : (zq_of Z (fun p => p &&& 2 ^ v) 16).testBit 0 = true ↔ (zq_of Z (fun p => zq_b (p.testBit v) 1) 16).testBit 0 = true := by
    rw [zq_of_tb, zq_of_tb]
    exact ⟨fun ⟨p, hp, z, e⟩ => ⟨p, hp, z, ((zq_s6 v hv p hp).1).mp e⟩, fun ⟨p, hp, z, e⟩ => ⟨p, hp, z, ((zq_s6 v hv p hp).1).mpr e⟩⟩
  have t1 : (zq_of Z (fun p => p &&& 2 ^ v) 16).testBit (2 ^ v) = true ↔ (zq_of Z (fun p => zq_b (p.testBit v) 1) 16).testBit 1 = true := by
    rw [zq_of_tb, zq_of_tb]
    exact ⟨fun ⟨p, hp, z, e⟩ => ⟨p, hp, z, ((zq_s6 v hv p hp).2).mp e⟩, fun ⟨p, hp, z, e⟩ => ⟨p, hp, z, ((zq_s6 v hv p hp).2).mpr e⟩⟩
  have s3 := zq_s4 _ (zq_vs_lt Z v)
  rw [← t0, ← t1] at s3
  obtain ⟨v1, v2⟩ := zq_s7 v hv
  by_cases e : zq_of Z (fun p => zq_b (p.testBit v) 1) 16 = 3
  · rw [decide_eq_true e, Bool.not_true]
    apply zq_nbt
    intro t
    obtain ⟨q, hq, qs, qf⟩ := (zq_rl_iff 16).mp t
    rcases zq_s5 v hv q hq qs with h | h
    · rw [h, (s3.mp e).1] at qf
      cases qf
    · rw [h, (s3.mp e).2] at qf
      cases qf
  · rw [decide_eq_false e, Bool.not_false]
    apply (zq_rl_iff 16).mpr
    refine Classical.byContradiction (fun n => e (s3.mpr ⟨zq_nbf (fun q => n ⟨0, by omega, Nat.zero_and _, q⟩), zq_nbf (fun q => n ⟨2 ^ v, v1, v2, q⟩)⟩))
theorem zq_s8 : ∀ p, p < 16 → p &&& 15 = p := by decide +kernel
theorem zq_rel15 (Z : Nat → Bool) : zq_rl (zq_of Z (fun p => p &&& 15) 16) 15 16 = decide (zq_ct Z 16 < 16) := by
  have t0 : ∀ q, q < 16 → ((zq_of Z (fun p => p &&& 15) 16).testBit q = true ↔ Z q = true) := by
    intro q hq
    rw [zq_of_tb]
    constructor
    · intro h
      obtain ⟨p, hp, z, e⟩ := h
      have e2 : p &&& 15 = q := e
      rw [zq_s8 p hp] at e2
      rw [← e2]
      exact z
    · exact fun h => ⟨q, hq, h, zq_s8 q hq⟩
  by_cases e : zq_ct Z 16 < 16
  · rw [decide_eq_true e]
    obtain ⟨p, hp, z⟩ := zq_ct16.mp e
    refine (zq_rl_iff 16).mpr ⟨p, hp, zq_s8 p hp, zq_nbt (fun t => ?_)⟩
    rw [(t0 p hp).mp t] at z
    cases z
  · rw [decide_eq_false e]
    apply zq_nbt
    intro t
    obtain ⟨q, hq, _, qf⟩ := (zq_rl_iff 16).mp t
    refine e (zq_ct16.mpr ⟨q, hq, zq_nbt (fun z => ?_)⟩)
    rw [(t0 q hq).mpr z] at qf
    cases qf
theorem zq_rel0 (Z : Nat → Bool) : zq_rl (zq_of Z (fun p => p &&& 0) 16) 0 16 = decide (zq_ct Z 16 = 0) := by
  by_cases e : zq_ct Z 16 = 0
  · rw [decide_eq_true e]
    refine (zq_rl_iff 16).mpr ⟨0, by omega, rfl, zq_nbt (fun t => ?_)⟩
    obtain ⟨p, hp, z, _⟩ := (zq_of_tb 16).mp t
    rw [zq_ct0.mp e p hp] at z
    cases z
  · rw [decide_eq_false e]
    apply zq_nbt
    intro t
    obtain ⟨q, hq, q0, qf⟩ := (zq_rl_iff 16).mp t
    rw [Nat.and_zero] at q0
    refine e (zq_ct0.mpr (fun p hp => zq_nbt (fun z => ?_)))
    have := (zq_of_tb (Z := Z) (g := fun p => p &&& 0) (q := q) 16).mpr ⟨p, hp, z, by show p &&& 0 = q; rw [Nat.and_zero]; exact q0⟩
    rw [qf] at this
    cases this
theorem zq_all0 (H : Nat → Nat) : zq_ct (zq_bd 0 H) 16 = 0 ∧ zq_bs (zq_bd 0 H) 16 = 0 := by
  have h : ∀ p, zq_bd 0 H p = false := fun p => decide_eq_false (Nat.not_lt_zero _)
  refine ⟨zq_ct_non 16 (fun p _ => h p), ?_⟩
  apply Nat.eq_of_testBit_eq
  intro i
  rw [zq_bs_tb, h, Bool.and_false, Nat.zero_testBit]
end
section
/-! ===== the law ===== -/
theorem zq_ip (i : Nat) : nI i + (-1) + 1 = nI (i + 1) + (-1) := by
  rw [pk_m1, Int32.add_assoc, show (-1 : Int32) + 1 = 0 from by decide, Int32.add_zero]
theorem zq_q_zeros {post : Int32 → St1 → Prop} {pr kn sz bc bs zs : Int32} {a1 a2 a3 a4 : Nat → Int32} (I : zq_Iv pr kn sz bc bs zs a1 a2 a3)
    (hp : ∀ st s P H Z sz bc bs zs a2 a3 a4, zq_gv st pr a1 → zq_KN s P H Z st sz bc bs zs a2 a3 → post zs (pr, 1, sz, bc, bs, zs, a1, a2, a3, a4)) : wpX_zeros post (pr, kn, sz, bc, bs, zs, a1, a2, a3, a4) := by
  obtain ⟨st, g, h⟩ := I
  unfold wpX_zeros
  rcases h with h | ⟨h, s, P, H, Z, K⟩
  · rw [h]
    exact zq_w_learn0 g (fun s P H Z sz bc bs zs a2 a3 a4 K => hp st s P H Z sz bc bs zs a2 a3 a4 g K)
  · rw [h]
    exact zq_w_learn1 (hp st s P H Z sz bc bs zs a2 a3 a4 g K)
theorem zq_l290 {post : Int32 → Prop} {L : Nat} {xs : Nat → Int32} {J : Int32 → Int32 → Int32 → Int32 → Int32 → Int32 → Int32 → (Nat → Int32) → (Nat → Int32) → (Nat → Int32) → (Nat → Int32) → Prop} {x2 z : Int32} {kc ks st : Nat} {sz bc bs zs : Int32} {a1 a2 a3 a4 : Nat → Int32} (hst : st < 64)
    (hJ : J (x2 + 2) (nI st) 1 sz bc bs zs a1 a2 a3 a4) : wL_law_290 post L xs J x2 z z kc ks (nI st) 1 sz bc bs zs a1 a2 a3 a4 := by
  unfold wL_law_290 wpX_generators
  exact br_t rfl (br_f (nI_pos (by omega)) (pk_lt 63 st (fun z => absurd z (by omega)) (fun _ => zq_q_bat (br_t rfl (nm_e hJ)))))
theorem zq_l263 {post : Int32 → Prop} {L : Nat} {xs : Nat → Int32} {J : Int32 → Int32 → Int32 → Int32 → Int32 → Int32 → Int32 → (Nat → Int32) → (Nat → Int32) → (Nat → Int32) → (Nat → Int32) → Prop} {x2 z : Int32} {kc ks st : Nat} {sz bc bs : Int32} {a1 a2 a3 a4 : Nat → Int32} {Z : Nat → Bool} (hst : st < 64)
    (hJ : J (x2 + 2) (nI st) 1 sz bc bs (nI (zq_bs Z 16)) a1 a2 a3 a4) : wL_law_263 post L xs J x2 (nI (zq_ct Z 16)) z z kc ks (nI st) 1 sz bc bs (nI (zq_bs Z 16)) a1 a2 a3 a4 := by
  have c16 := zq_ct_le Z 16
  unfold wL_law_263
  refine br_t rfl (zq_q_rel16 (br_t rfl (zq_q_rel (vars := 0) (by omega) ?_)))
  rw [zq_rel0]
  refine pk_eq (zq_ct Z 16) 0 (fun e => ?_) (fun e => ?_)
  · rw [decide_eq_true e]
    exact zq_l290 (z := 1) hst hJ
  · rw [decide_eq_false e]
    exact zq_l290 (z := 0) hst hJ
theorem zq_l168 {post : Int32 → Prop} {L : Nat} {xs : Nat → Int32} {J : Int32 → Int32 → Int32 → Int32 → Int32 → Int32 → Int32 → (Nat → Int32) → (Nat → Int32) → (Nat → Int32) → (Nat → Int32) → Prop} {J2 : Int32 → Int32 → Int32 → Int32 → Int32 → Int32 → Int32 → (Nat → Int32) → (Nat → Int32) → (Nat → Int32) → (Nat → Int32) → Prop} {x2 x4 x7 : Int32} {kc ks : Nat} {pr kn sz bc bs zs : Int32} {a1 a2 a3 a4 : Nat → Int32}
    (hJ : J2 (x7 + 1) pr kn sz bc bs zs a1 a2 a3 a4) : wL_law_168 post L xs J J2 x2 x4 x7 0 kc ks pr kn sz bc bs zs a1 a2 a3 a4 := by
  unfold wL_law_168 wL_law_169 wL_law_192 wL_law_206 wL_law_207
  exact br_f (by decide) (br_f (by decide) (br_t rfl (br_t rfl (br_t rfl (br_t rfl (nm_e hJ))))))
theorem zq_l207 {post : Int32 → Prop} {L : Nat} {xs : Nat → Int32} {J : Int32 → Int32 → Int32 → Int32 → Int32 → Int32 → Int32 → (Nat → Int32) → (Nat → Int32) → (Nat → Int32) → (Nat → Int32) → Prop} {J2 : Int32 → Int32 → Int32 → Int32 → Int32 → Int32 → Int32 → (Nat → Int32) → (Nat → Int32) → (Nat → Int32) → (Nat → Int32) → Prop} {x2 x4 z : Int32} {kc ks v : Nat} {pr sz bc bs : Int32} {a1 a2 a3 a4 : Nat → Int32} {Z : Nat → Bool} (hv : v < 4)
    (hJ : J2 (nI v + 1) pr 1 sz bc bs (nI (zq_bs Z 16)) a1 a2 a3 a4) : wL_law_207 post L xs J J2 x2 x4 (nI v) (nI (zq_of Z (fun p => zq_b (p.testBit v) 1) 16)) 1 z z kc ks pr 1 sz bc bs (nI (zq_bs Z 16)) a1 a2 a3 a4 := by
  have s4 := zq_vs_lt Z v
  unfold wL_law_207
  refine br_t rfl (br_f (by decide) ?_)
  rw [zq_shl v (by omega)]
  refine zq_q_rel (zq_s7 v hv).1 ?_
  rw [zq_rel1 Z hv]
  unfold wL_law_234
  refine pk_eq (zq_of Z (fun p => zq_b (p.testBit v) 1) 16) 3 (fun e => ?_) (fun e => ?_)
  · rw [decide_eq_true e]
    exact br_t rfl (nm_e hJ)
  · rw [decide_eq_false e]
    exact br_t rfl (nm_e hJ)
theorem zq_l169 {post : Int32 → Prop} {L : Nat} {xs : Nat → Int32} {J : Int32 → Int32 → Int32 → Int32 → Int32 → Int32 → Int32 → (Nat → Int32) → (Nat → Int32) → (Nat → Int32) → (Nat → Int32) → Prop} {J2 : Int32 → Int32 → Int32 → Int32 → Int32 → Int32 → Int32 → (Nat → Int32) → (Nat → Int32) → (Nat → Int32) → (Nat → Int32) → Prop} {x2 : Int32} {kc ks v : Nat} {pr sz bc bs : Int32} {a1 a2 a3 a4 : Nat → Int32} {Z : Nat → Bool} (hv : v < 4)
    (hJ : J2 (nI v + 1) pr 1 sz bc bs (nI (zq_bs Z 16)) a1 a2 a3 a4) : wL_law_169 post L xs J J2 x2 (nI (zq_ct Z 16)) (nI v) (nI (zq_of Z (fun p => zq_b (p.testBit v) 1) 16)) 1 kc ks pr 1 sz bc bs (nI (zq_bs Z 16)) a1 a2 a3 a4 := by
  have s4 := zq_vs_lt Z v
  have c16 := zq_ct_le Z 16
  have s0 := zq_vs_0 Z v
  unfold wL_law_169
  refine br_f (nI_pos (by omega)) (pk_lt 3 (zq_of Z (fun p => zq_b (p.testBit v) 1) 16) (fun z => absurd z (by omega)) (fun _ => ?_))
  unfold wL_law_192 wL_law_206
  refine pk_eq (zq_of Z (fun p => zq_b (p.testBit v) 1) 16) 0 (fun e => br_f (by decide) ?_) (fun e => br_f (by decide) ?_)
  · exact pk_le (zq_ct Z 16) 0 (fun _ => zq_l207 (z := 0) hv hJ) (fun z => absurd (s0.mp e) (by omega))
  · exact pk_le (zq_ct Z 16) 0 (fun z => absurd (s0.mpr (by omega)) e) (fun _ => zq_l207 (z := 1) hv hJ)
theorem zq_l139 {post : Int32 → Prop} {L : Nat} {xs : Nat → Int32} {J : Int32 → Int32 → Int32 → Int32 → Int32 → Int32 → Int32 → (Nat → Int32) → (Nat → Int32) → (Nat → Int32) → (Nat → Int32) → Prop} {x2 : Int32} {kc ks st : Nat} {sz bc bs : Int32} {a1 a2 a3 a4 : Nat → Int32} {Z : Nat → Bool} (hst : st < 64)
    (hJ : J (x2 + 2) (nI st) 1 sz bc bs (nI (zq_bs Z 16)) a1 a2 a3 a4) : ∃ n, wL_law_139 post L xs J x2 (nI (zq_ct Z 16)) kc ks n (-1) (nI st) 1 sz bc bs (nI (zq_bs Z 16)) a1 a2 a3 a4 := by
  have c16 := zq_ct_le Z 16
  have r : ∃ n, wL_law_139 post L xs J x2 (nI (zq_ct Z 16)) kc ks n (nI 0 + (-1)) (nI st) 1 sz bc bs (nI (zq_bs Z 16)) a1 a2 a3 a4 := by
    refine pk_loop (σ := Unit) (fun n i _ => wL_law_139 post L xs J x2 (nI (zq_ct Z 16)) kc ks n (nI i + (-1)) (nI st) 1 sz bc bs (nI (zq_bs Z 16)) a1 a2 a3 a4) (fun _ _ => True) 6 0 () (by omega) trivial ?_ ?_
    · intro n _ _
      show wL_law_139 post L xs J x2 (nI (zq_ct Z 16)) kc ks (n + 1) (nI (5 + 1) + (-1)) (nI st) 1 sz bc bs (nI (zq_bs Z 16)) a1 a2 a3 a4
      rw [pk_m1]
      refine pk_le 5 5 (fun _ => zq_q_rel (vars := 15) (by omega) ?_) (fun z => absurd z (by omega))
      rw [zq_rel15]
      refine pk_le 16 (zq_ct Z 16) (fun z => ?_) (fun z => ?_)
      · rw [decide_eq_false (show ¬ zq_ct Z 16 < 16 by omega)]
        exact zq_l263 (z := 0) hst hJ
      · rw [decide_eq_true z]
        exact zq_l263 (z := 1) hst hJ
    · intro n i _ hi _ hw
      have hw' := hw () trivial
      rw [← zq_ip] at hw'
      rcases Nat.eq_zero_or_pos i with e | e
      · rw [e] at hw' ⊢
        rw [show nI 0 + (-1) = (-1 : Int32) from by decide] at hw' ⊢
        exact br_f (by decide) (zq_q_vals0 (Or.inl (by decide)) (br_t (by decide) (zq_l168 hw')))
      · obtain ⟨v, rfl⟩ : ∃ v, i = v + 1 := ⟨i - 1, by omega⟩
        rw [pk_m1] at hw' ⊢
        refine pk_le 5 v (fun z => absurd z (by omega)) (fun _ => ?_)
        by_cases v4 : v < 4
        · exact zq_q_vals v4 (br_f (nI_pos (by omega)) (pk_le 4 v (fun z => absurd z (by omega)) (fun _ => zq_l169 v4 hw')))
        · have ev : v = 4 := by omega
          rw [ev] at hw' ⊢
          exact zq_q_vals0 (Or.inr ⟨by decide, by decide⟩) (br_f (by decide) (br_t (by decide) (zq_l168 hw')))
  rw [show nI 0 + (-1) = (-1 : Int32) from by decide] at r
  exact r
theorem zq_l107 {post : Int32 → Prop} {L : Nat} {xs : Nat → Int32} {J : Int32 → Int32 → Int32 → Int32 → Int32 → Int32 → Int32 → (Nat → Int32) → (Nat → Int32) → (Nat → Int32) → (Nat → Int32) → Prop} {x2 : Int32} {kc ks st s : Nat} {P H : Nat → Nat} {bc : Int32} {a1 a2 a3 a4 : Nat → Int32} {Z : Nat → Bool} (hst : st < 64) (D : zq_D s P H a2 a3) (h1 : vp_in x2 L) (h2 : vp_in (x2 + 1) L)
    (hJ : J (x2 + 2) (nI st) 1 (nI s) bc (nI (zq_bs (zq_bd s H) 16)) (nI (zq_bs Z 16)) a1 a2 a3 a4) : wL_law_107 post L xs J x2 (nI (zq_ct Z 16)) kc ks (nI st) 1 (nI s) bc (nI (zq_bs (zq_bd s H) 16)) (nI (zq_bs Z 16)) a1 a2 a3 a4 := by
  unfold wL_law_107
  exact ⟨h2, zq_q_poly D _ (br_f (by decide) ⟨h1, zq_q_poly D _ (br_f (by decide) (zq_l139 hst hJ))⟩)⟩
theorem zq_l59 {post : Int32 → Prop} {L : Nat} {xs : Nat → Int32} {J : Int32 → Int32 → Int32 → Int32 → Int32 → Int32 → Int32 → (Nat → Int32) → (Nat → Int32) → (Nat → Int32) → (Nat → Int32) → Prop} {x2 z : Int32} {kc ks st s : Nat} {P H : Nat → Nat} {a1 a2 a3 a4 : Nat → Int32} {Z : Nat → Bool} (hst : st < 64) (D : zq_D s P H a2 a3) (hc : zq_ct Z 16 + zq_ct (zq_bd s H) 16 = 16) (hz : z = 0 ∨ s = 0) (h1 : vp_in x2 L) (h2 : vp_in (x2 + 1) L)
    (hJ : J (x2 + 2) (nI st) 1 (nI s) (nI (zq_ct (fun m => zq_ls (zq_bd s H) m 4) 16)) (nI (zq_bs (zq_bd s H) 16)) (nI (zq_bs Z 16)) a1 a2 a3 a4) :
    wL_law_59 post L xs J x2 (nI (zq_bs Z 16)) (nI (zq_ct Z 16)) (nI (zq_bs (zq_bd s H) 16)) z kc ks (nI st) 1 (nI s) (nI (zq_ct (fun m => zq_ls (zq_bd s H) m 4) 16)) (nI (zq_bs (zq_bd s H) 16)) (nI (zq_bs Z 16)) a1 a2 a3 a4 := by
  have w107 := zq_l107 (post := post) (xs := xs) (kc := kc) (ks := ks) hst D h1 h2 hJ
  unfold wL_law_59
  refine zq_q_heads (fun i hi => (D.2.2 i hi).1) (br_f (by decide) (zq_q_ones (br_t rfl (zq_q_ones (br_t ?_ ?_)))))
  · show nI (zq_ct Z 16) = nI 16 - nI (zq_ct (zq_bd s H) 16)
    rw [pk_sub (by omega), show 16 - zq_ct (zq_bd s H) 16 = zq_ct Z 16 by omega]
  · rcases hz with e | e
    · exact br_t e w107
    · obtain ⟨b1, b2⟩ := zq_all0 H
      refine br_c (fun _ => w107) (fun _ => br_t ?_ (br_t ?_ w107))
      · rw [e, b1] at hc
        rw [show zq_ct Z 16 = 16 by omega]
        rfl
      · rw [e, b2]
        rfl
theorem zq_l10 {post : Int32 → Prop} {L : Nat} {xs : Nat → Int32} {kc ks : Nat} (hL : L ≤ 260) (hp : post 1) : ∀ n k pr kn sz bc bs zs a1 a2 a3 a4, zq_Iv pr kn sz bc bs zs a1 a2 a3 → k ≤ L → L + 2 ≤ k + 2 * n → wL_law_10 post L xs kc ks n (nI k) pr kn sz bc bs zs a1 a2 a3 a4 := by
  intro n
  induction n with
  | zero => exact fun k pr kn sz bc bs zs a1 a2 a3 a4 _ h g => absurd g (by omega)
  | succ n ih =>
    intro k pr kn sz bc bs zs a1 a2 a3 a4 I hk hn
    refine pk_le L (k + 1) (fun _ => hp) (fun z => ?_) rfl (nI_1 k)
    have v1 : vp_in (nI k) L := pk_in k L (by omega)
    have v2 : vp_in (nI k + 1) L := pk_in (k + 1) L z (nI_1 k)
    refine ⟨v1, v2, zq_w_turn I (fun pr kn a1 I => zq_q_zeros I (fun st s P H Z sz bc bs zs a2 a3 a4 g K => ?_))⟩
    obtain ⟨rfl, D, q, rfl, rfl, rfl, hc⟩ := K
    have hst := g.2.1
    have e1 := g.1
    refine zq_q_count (zq_q_bound ?_)
    have J := ih (k + 2) pr 1 (nI s) (nI (zq_ct (fun m => zq_ls (zq_bd s H) m 4) 16)) (nI (zq_bs (zq_bd s H) 16)) (nI (zq_bs Z 16)) a1 a2 a3 a4 ⟨st, g, Or.inr ⟨rfl, s, P, H, Z, rfl, D, q, rfl, rfl, rfl, hc⟩⟩ (by omega) (by omega)
    rw [← nI_add k 2] at J
    rw [e1] at J ⊢
    unfold wpX_generators
    exact pk_eq st 0 (fun e => zq_l59 hst D hc (Or.inr (q e)) v1 v2 J) (fun _ => zq_l59 hst D hc (Or.inl rfl) v1 v2 J)
end
section
/-! ===== what is owed ===== -/
theorem i_vc (xs : Nat → Int32) (L : Nat) (hL : L ≤ 260) : wpL_law (fun r => r = 1) L xs := by
  obtain ⟨n, hn⟩ : ∃ n, L + 2 ≤ 0 + 2 * n := ⟨L + 2, by omega⟩
  have I : zq_Iv 0 0 0 0 0 0 (fun _ => 0) (fun _ => 0) (fun _ => 0) := ⟨0, ⟨rfl, by omega, fun _ => 0, fun _ _ => rfl, fun _ _ => Nat.two_pow_pos 16⟩, Or.inl rfl⟩
  have h := zq_l10 (post := fun r => r = 1) (xs := xs) (kc := 1 + 4) (ks := 10 + 86) hL rfl n 0 0 0 0 0 0 0 (fun _ => 0) (fun _ => 0) (fun _ => 0) (fun _ => 0) I (Nat.zero_le L) hn
  rw [nI_0] at h
  unfold wpL_law
  refine ⟨4, 86, by omega, by omega, ?_⟩
  unfold wpX_init
  exact ⟨by omega, by omega, by omega, by omega, by omega, by omega, by omega, by omega, n, h⟩
end
