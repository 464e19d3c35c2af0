section
/-! ===== symbols: tables packed into one number ===== -/
def sm_gm (x y : Nat) : Nat := Nat.land (Nat.shiftRight 2821848294356612419217921029917578219971947684264937521152 (Nat.mul 3 (Nat.add (Nat.mul 8 x) y))) 7
def sm_gd (x y : Nat) : Nat := Nat.land (Nat.shiftRight 1047628189932426741136043465902155670087605318451074170880 (Nat.mul 3 (Nat.add (Nat.mul 8 x) y))) 7
def sm_pw (j : Nat) : Nat := Nat.land (Nat.shiftRight 3285150328593 (Nat.mul 3 j)) 7
def sm_ex (j : Nat) : Nat := Nat.land (Nat.shiftRight 11740736 (Nat.mul 3 j)) 7
theorem sm_gm_lt (x y : Nat) : sm_gm x y < 8 := Nat.and_lt_two_pow (n := 3) _ (by decide)
theorem sm_gd_lt (x y : Nat) : sm_gd x y < 8 := Nat.and_lt_two_pow (n := 3) _ (by decide)
theorem sm_pw_lt (x : Nat) : sm_pw x < 8 := Nat.and_lt_two_pow (n := 3) _ (by decide)
theorem sm_ex_lt : ∀ x, x < 8 → sm_ex x < 7 := by decide +kernel
theorem sm_gm_0y : ∀ y, y < 8 → sm_gm 0 y = 0 := by decide +kernel
theorem sm_gm_x0 : ∀ x, x < 8 → sm_gm x 0 = 0 := by decide +kernel
theorem sm_gd_0y : ∀ y, y < 8 → sm_gd 0 y = 0 := by decide +kernel
theorem sm_gm_pw : ∀ x, x < 8 → ∀ y, y < 8 → x ≠ 0 → y ≠ 0 → sm_gm x y = sm_pw (sm_ex x + sm_ex y) := by decide +kernel
theorem sm_gd_pw : ∀ x, x < 8 → ∀ y, y < 8 → x ≠ 0 → sm_gd x y = sm_pw (sm_ex x + 7 - sm_ex y) := by decide +kernel
theorem sm_gm_addL : ∀ a, a < 8 → ∀ b, b < 8 → ∀ c, c < 8 → sm_gm (Nat.xor a b) c = Nat.xor (sm_gm a c) (sm_gm b c) := by decide +kernel
theorem sm_gm_addR : ∀ a, a < 8 → ∀ b, b < 8 → ∀ c, c < 8 → sm_gm c (Nat.xor a b) = Nat.xor (sm_gm c a) (sm_gm c b) := by decide +kernel
theorem sm_gd_add : ∀ a, a < 8 → ∀ b, b < 8 → ∀ c, c < 8 → sm_gd (Nat.xor a b) c = Nat.xor (sm_gd a c) (sm_gd b c) := by decide +kernel
/-! ===== xor ===== -/
theorem sm_xlt {a b : Nat} (ha : a < 8) (hb : b < 8) : Nat.xor a b < 8 := Nat.xor_lt_two_pow (n := 3) ha hb
theorem sm_xa (a b c : Nat) : Nat.xor (Nat.xor a b) c = Nat.xor a (Nat.xor b c) := Nat.xor_assoc a b c
theorem sm_xc (a b : Nat) : Nat.xor a b = Nat.xor b a := Nat.xor_comm a b
theorem sm_x0 (a : Nat) : Nat.xor a 0 = a := Nat.xor_zero a
theorem sm_0x (a : Nat) : Nat.xor 0 a = a := Nat.zero_xor a
theorem sm_xx (a : Nat) : Nat.xor a a = 0 := Nat.xor_self a
theorem sm_x4 (a b c d : Nat) : Nat.xor (Nat.xor a b) (Nat.xor c d) = Nat.xor (Nat.xor a c) (Nat.xor b d) := by
  rw [sm_xa, sm_xa, ← sm_xa b c d, ← sm_xa c b d, sm_xc b c]
theorem sm_xk (a b : Nat) : Nat.xor (Nat.xor a b) b = a := by rw [sm_xa, sm_xx, sm_x0]
theorem sm_xk' (a b : Nat) : Nat.xor a (Nat.xor a b) = b := by rw [← sm_xa, sm_xx, sm_0x]
theorem sm_nx (a b : Nat) : nI a ^^^ nI b = nI (Nat.xor a b) := by
  apply Int32.toBitVec_inj.1
  show BitVec.ofNat 32 a ^^^ BitVec.ofNat 32 b = BitVec.ofNat 32 (a ^^^ b)
  apply BitVec.eq_of_getLsbD_eq
  intro i hi
  simp [hi]
/-! ===== sums ===== -/
noncomputable def sm_xs (f : Nat → Nat) (n : Nat) : Nat := Nat.rec (motive := fun _ => Nat) 0 (fun k ih => Nat.xor ih (f k)) n
theorem sm_xs_0 (f : Nat → Nat) : sm_xs f 0 = 0 := rfl
theorem sm_xs_s (f : Nat → Nat) (n : Nat) : sm_xs f (n + 1) = Nat.xor (sm_xs f n) (f n) := rfl
theorem sm_xs_lt {f : Nat → Nat} {n : Nat} (h : ∀ k, k < n → f k < 8) : sm_xs f n < 8 := by
  induction n with
  | zero => exact (by decide : 0 < 8)
  | succ n ih => rw [sm_xs_s]; exact sm_xlt (ih (fun k hk => h k (by omega))) (h n (by omega))
theorem sm_xs_cg {f g : Nat → Nat} {n : Nat} (h : ∀ k, k < n → f k = g k) : sm_xs f n = sm_xs g n := by
  induction n with
  | zero => rfl
  | succ n ih => rw [sm_xs_s, sm_xs_s, ih (fun k hk => h k (by omega)), h n (by omega)]
theorem sm_xs_add (f g : Nat → Nat) (n : Nat) : sm_xs (fun k => Nat.xor (f k) (g k)) n = Nat.xor (sm_xs f n) (sm_xs g n) := by
  induction n with
  | zero => exact (sm_x0 0).symm
  | succ n ih => rw [sm_xs_s, sm_xs_s, sm_xs_s, ih, sm_x4]
theorem sm_xs_z {f : Nat → Nat} {n : Nat} (h : ∀ k, k < n → f k = 0) : sm_xs f n = 0 := by
  induction n with
  | zero => rfl
  | succ n ih => rw [sm_xs_s, ih (fun k hk => h k (by omega)), h n (by omega)]; rfl
/-- a sum with one term -/
theorem sm_xs_1 {f : Nat → Nat} {n q : Nat} (hq : q < n) (h : ∀ k, k < n → k ≠ q → f k = 0) : sm_xs f n = f q := by
  induction n with
  | zero => omega
  | succ n ih =>
    rw [sm_xs_s]
    by_cases e : q = n
    · rw [sm_xs_z (fun k hk => h k (by omega) (by omega)), sm_0x, e]
    · rw [ih (by omega) (fun k hk hn => h k (by omega) hn), h n (by omega) (by omega), sm_x0]
noncomputable def sm_ct (f : Nat → Bool) (n : Nat) : Nat := Nat.rec (motive := fun _ => Nat) 0 (fun k ih => Nat.add ih (cond (f k) 1 0)) n
theorem sm_ct_0 (f : Nat → Bool) : sm_ct f 0 = 0 := rfl
theorem sm_ct_s (f : Nat → Bool) (n : Nat) : sm_ct f (n + 1) = sm_ct f n + cond (f n) 1 0 := rfl
theorem sm_ct_le (f : Nat → Bool) (n : Nat) : sm_ct f n ≤ n := by
  induction n with
  | zero => exact Nat.le_refl 0
  | succ n ih => rw [sm_ct_s]; cases f n <;> simp only [cond] <;> omega
theorem sm_ct_cg {f g : Nat → Bool} {n : Nat} (h : ∀ k, k < n → f k = g k) : sm_ct f n = sm_ct g n := by
  induction n with
  | zero => rfl
  | succ n ih => rw [sm_ct_s, sm_ct_s, ih (fun k hk => h k (by omega)), h n (by omega)]
theorem sm_ct_z {f : Nat → Bool} {n : Nat} (h : ∀ k, k < n → f k = false) : sm_ct f n = 0 := by
  induction n with
  | zero => rfl
  | succ n ih => rw [sm_ct_s, ih (fun k hk => h k (by omega)), h n (by omega)]; rfl
/-- two places at most -/
theorem sm_ct_1 {f : Nat → Bool} {p n : Nat} (h : ∀ k, k < n → k ≠ p → f k = false) : sm_ct f n ≤ 1 := by
  induction n with
  | zero => exact Nat.zero_le _
  | succ n ih =>
    rw [sm_ct_s]
    by_cases e : n = p
    · rw [sm_ct_z (fun k hk => h k (by omega) (by omega))]; cases f n <;> simp [cond]
    · rw [h n (by omega) e]; exact ih (fun k hk hn => h k (by omega) hn)
theorem sm_ct_2 {f : Nat → Bool} {p q n : Nat} (h : ∀ k, k < n → k ≠ p → k ≠ q → f k = false) : sm_ct f n ≤ 2 := by
  induction n with
  | zero => exact Nat.zero_le _
  | succ n ih =>
    rw [sm_ct_s]
    by_cases e : n = p
    · have t := sm_ct_1 (f := f) (p := q) (n := n) (fun k hk hn => h k (by omega) (by omega) hn)
      cases f n <;> simp only [cond] <;> omega
    · by_cases e2 : n = q
      · have t := sm_ct_1 (f := f) (p := p) (n := n) (fun k hk hn => h k (by omega) hn (by omega))
        cases f n <;> simp only [cond] <;> omega
      · rw [h n (by omega) e e2]; exact ih (fun k hk hn => h k (by omega) hn)
/-! ===== a memo: n places below 8 in one number ===== -/
def sm_at (P j : Nat) : Nat := Nat.mod (Nat.div P (Nat.pow 8 j)) 8
noncomputable def sm_pk (f : Nat → Nat) (n : Nat) : Nat := Nat.rec (motive := fun _ => Nat) 0 (fun k ih => Nat.add ih (Nat.mul (f k) (Nat.pow 8 k))) n
noncomputable def sm_mm (n : Nat) (f : Nat → Nat) (j : Nat) : Nat := sm_at (sm_pk f n) j
theorem sm_pk_s (f : Nat → Nat) (n : Nat) : sm_pk f (n + 1) = sm_pk f n + f n * 8 ^ n := rfl
theorem sm_pk_lt {f : Nat → Nat} {n : Nat} (h : ∀ k, k < n → f k < 8) : sm_pk f n < 8 ^ n := by
  induction n with
  | zero => exact (by decide : 0 < 8 ^ 0)
  | succ n ih =>
    rw [sm_pk_s, Nat.pow_succ]
    have h1 := ih (fun k hk => h k (by omega))
    have h2 : f n * 8 ^ n ≤ 7 * 8 ^ n := Nat.mul_le_mul_right _ (by have := h n (by omega); omega)
    omega
theorem sm_pk_cg {f g : Nat → Nat} {n : Nat} (h : ∀ k, k < n → f k = g k) : sm_pk f n = sm_pk g n := by
  induction n with
  | zero => rfl
  | succ n ih => rw [sm_pk_s, sm_pk_s, ih (fun k hk => h k (by omega)), h n (by omega)]
theorem sm_mm_cg {f g : Nat → Nat} {n : Nat} (h : ∀ k, k < n → f k = g k) : sm_mm n f = sm_mm n g := by
  funext j
  show sm_at (sm_pk f n) j = sm_at (sm_pk g n) j
  rw [sm_pk_cg h]
theorem sm_mm_lt (n : Nat) (f : Nat → Nat) (j : Nat) : sm_mm n f j < 8 := Nat.mod_lt _ (by decide)
theorem sm_mm_eq {f : Nat → Nat} {n : Nat} (h : ∀ k, k < n → f k < 8) : ∀ {j : Nat}, j < n → sm_mm n f j = f j := by
  induction n with
  | zero => intro j hj; omega
  | succ n ih =>
    intro j hj
    show (sm_pk f n + f n * 8 ^ n) / 8 ^ j % 8 = f j
    have hp : 0 < 8 ^ j := Nat.pow_pos (by decide)
    by_cases e : j = n
    · subst e
      rw [Nat.add_mul_div_right _ _ hp, Nat.div_eq_of_lt (sm_pk_lt (fun k hk => h k (by omega))), Nat.zero_add]
      exact Nat.mod_eq_of_lt (h j (by omega))
    · have e2 : f n * 8 ^ n = (f n * 8 ^ (n - j - 1) * 8) * 8 ^ j := by
        rw [Nat.mul_assoc, Nat.mul_assoc, ← Nat.pow_succ', ← Nat.pow_add, show n - j - 1 + (j + 1) = n by omega]
      rw [e2, Nat.add_mul_div_right _ _ hp, Nat.add_mul_mod_self_right]
      exact ih (fun k hk => h k (by omega)) (by omega)
/-! ===== value of a word at a symbol ===== -/
noncomputable def sm_v (w : Nat → Nat) (x n : Nat) : Nat := Nat.rec (motive := fun _ => Nat) 0 (fun i ih => Nat.xor (sm_gm ih x) (w (Nat.sub 6 i))) n
noncomputable def sm_val (w : Nat → Nat) (x : Nat) : Nat := sm_v w x 7
theorem sm_v_s (w : Nat → Nat) (x n : Nat) : sm_v w x (n + 1) = Nat.xor (sm_gm (sm_v w x n) x) (w (6 - n)) := rfl
theorem sm_v_lt {w : Nat → Nat} {x n : Nat} (h : ∀ k, k < 7 → w k < 8) : sm_v w x n < 8 := by
  cases n with
  | zero => exact (by decide : 0 < 8)
  | succ n => rw [sm_v_s]; exact sm_xlt (sm_gm_lt _ _) (h _ (by omega))
theorem sm_val_lt {w : Nat → Nat} {x : Nat} (h : ∀ k, k < 7 → w k < 8) : sm_val w x < 8 := sm_v_lt h
theorem sm_v_cg {w w' : Nat → Nat} {x n : Nat} (h : ∀ k, k < 7 → w k = w' k) : sm_v w x n = sm_v w' x n := by
  induction n with
  | zero => rfl
  | succ n ih => rw [sm_v_s, sm_v_s, ih, h _ (by omega)]
theorem sm_val_cg {w w' : Nat → Nat} {x : Nat} (h : ∀ k, k < 7 → w k = w' k) : sm_val w x = sm_val w' x := sm_v_cg h
theorem sm_v_add {w e : Nat → Nat} {x n : Nat} (hx : x < 8) (hw : ∀ k, k < 7 → w k < 8) (he : ∀ k, k < 7 → e k < 8) : sm_v (fun k => Nat.xor (w k) (e k)) x n = Nat.xor (sm_v w x n) (sm_v e x n) := by
  induction n with
  | zero => exact (sm_x0 0).symm
  | succ n ih => rw [sm_v_s, sm_v_s, sm_v_s, ih, sm_gm_addL _ (sm_v_lt hw) _ (sm_v_lt he) _ hx, sm_x4]
theorem sm_val_add {w e : Nat → Nat} {x : Nat} (hx : x < 8) (hw : ∀ k, k < 7 → w k < 8) (he : ∀ k, k < 7 → e k < 8) : sm_val (fun k => Nat.xor (w k) (e k)) x = Nat.xor (sm_val w x) (sm_val e x) := sm_v_add hx hw he
/-! ===== send ===== -/
def sm_dv (l : Nat) (r : Nat × Nat × Nat × Nat) : Nat × Nat × Nat × Nat :=
  (sm_gm (Nat.xor l r.2.2.2) 3, Nat.xor r.1 (sm_gm (Nat.xor l r.2.2.2) 2), Nat.xor r.2.1 (Nat.xor l r.2.2.2), Nat.xor r.2.2.1 (sm_gm (Nat.xor l r.2.2.2) 3))
def sm_rr (a b c : Nat) : Nat × Nat × Nat × Nat := sm_dv a (sm_dv b (sm_dv c (0, 0, 0, 0)))
def sm_enc (a b c j : Nat) : Nat :=
  cond (Nat.beq j 0) (sm_rr a b c).1 (cond (Nat.beq j 1) (sm_rr a b c).2.1 (cond (Nat.beq j 2) (sm_rr a b c).2.2.1 (cond (Nat.beq j 3) (sm_rr a b c).2.2.2 (cond (Nat.beq j 4) a (cond (Nat.beq j 5) b (cond (Nat.beq j 6) c 0))))))
/-! ===== findWhole ===== -/
noncomputable def sm_syn (w : Nat → Nat) : Nat → Nat := sm_mm 5 (fun j => cond (Nat.beq j 0) 0 (sm_val w (sm_pw j)))
def sm_r0 (k : Nat) : Nat := cond (Nat.beq k 0) 1 0
def sm_rF (R : Nat → Nat) (x k : Nat) : Nat := cond (Nat.beq k 0) (R 0) (Nat.xor (R k) (sm_gm (R (Nat.sub k 1)) x))
noncomputable def sm_rS (R : Nat → Nat) (x : Nat) : Nat → Nat := sm_mm 10 (sm_rF R x)
noncomputable def sm_RL (m : Nat → Bool) (n : Nat) : Nat → Nat := Nat.rec (motive := fun _ => Nat → Nat) sm_r0 (fun p R => cond (m p) (sm_rS R (sm_pw p)) R) n
noncomputable def sm_gap (R S : Nat → Nat) (r : Nat) : Nat := sm_xs (fun k => sm_gm (R k) (S (Nat.sub r k))) r
def sm_sh (H : Nat → Nat) (k : Nat) : Nat := cond (Nat.beq k 0) 0 (H (Nat.sub k 1))
noncomputable def sm_lR (R H : Nat → Nat) (g : Nat) : Nat → Nat := sm_mm 10 (fun k => Nat.xor (R k) (sm_gm g (H k)))
def sm_lo (len r lost : Nat) : Bool := Nat.ble (Nat.mul 2 len) (Nat.sub (Nat.add r lost) 1)
noncomputable def sm_lH (R H : Nat → Nat) (g : Nat) (lo : Bool) : Nat → Nat := cond lo (sm_mm 10 (fun k => sm_gd (R k) g)) H
def sm_lL (len r lost : Nat) : Nat := cond (sm_lo len r lost) (Nat.sub (Nat.add r lost) len) len
noncomputable def sm_st (S : Nat → Nat) (lost r : Nat) (B : (Nat → Nat) × (Nat → Nat) × Nat) : (Nat → Nat) × (Nat → Nat) × Nat :=
  cond (Nat.beq (sm_gap B.1 S r) 0) (B.1, sm_sh B.2.1, B.2.2)
    (sm_lR B.1 (sm_sh B.2.1) (sm_gap B.1 S r), sm_lH B.1 (sm_sh B.2.1) (sm_gap B.1 S r) (sm_lo B.2.2 r lost), sm_lL B.2.2 r lost)
noncomputable def sm_bm (S : Nat → Nat) (lost : Nat) (R : Nat → Nat) (n : Nat) : (Nat → Nat) × (Nat → Nat) × Nat :=
  Nat.rec (motive := fun _ => (Nat → Nat) × (Nat → Nat) × Nat) (R, R, lost) (fun i B => sm_st S lost (Nat.add (Nat.add lost 1) i) B) n
noncomputable def sm_nF (R S : Nat → Nat) (k i : Nat) : Nat := sm_xs (fun i => sm_gm (R i) (S (Nat.add (Nat.sub k i) 1))) i
noncomputable def sm_nu (R S : Nat → Nat) : Nat → Nat := sm_mm 4 (fun k => sm_nF R S k (Nat.add k 1))
noncomputable def sm_xp (b k : Nat) : Nat := Nat.rec (motive := fun _ => Nat) 1 (fun _ x => sm_gm x b) k
noncomputable def sm_su (R : Nat → Nat) (b n : Nat) : Nat := sm_xs (fun k => sm_gm (R k) (sm_xp b k)) n
noncomputable def sm_od (R : Nat → Nat) (b n : Nat) : Nat := sm_xs (fun k => cond (Nat.beq (Nat.mod k 2) 0) 0 (sm_gm (R k) (sm_xp b k))) n
noncomputable def sm_up (N : Nat → Nat) (b n : Nat) : Nat := sm_xs (fun k => cond (Nat.ble 4 k) 0 (sm_gm (N k) (sm_xp b k))) n
noncomputable def sm_co (R N : Nat → Nat) (p : Nat) : Nat :=
  cond (Nat.beq (sm_su R (sm_pw (Nat.sub 7 p)) 8) 0)
    (cond (Nat.beq (sm_od R (sm_pw (Nat.sub 7 p)) 8) 0) 0 (sm_gd (sm_up N (sm_pw (Nat.sub 7 p)) 8) (sm_gm (sm_od R (sm_pw (Nat.sub 7 p)) 8) (sm_pw p)))) 0
/-- the rule that has been built for missing places m and syndromes S -/
noncomputable def sm_ru (m : Nat → Bool) (S : Nat → Nat) : Nat → Nat := (sm_bm S (sm_ct m 7) (sm_RL m 7) (Nat.sub 4 (sm_ct m 7))).1
noncomputable def sm_cw (m : Nat → Bool) (S : Nat → Nat) (p : Nat) : Nat := sm_co (sm_ru m S) (sm_nu (sm_ru m S) S) p
noncomputable def sm_wh (w : Nat → Nat) (m : Nat → Bool) (p : Nat) : Nat := Nat.xor (w p) (sm_cw m (sm_syn w) p)
noncomputable def sm_df (w : Nat → Nat) (m : Nat → Bool) (wh : Nat → Nat) : Nat := sm_ct (fun p => !(m p) && !(Nat.beq (wh p) (w p))) 7
noncomputable def sm_cd (wh : Nat → Nat) : Bool := Nat.beq (sm_val wh (sm_pw 1)) 0 && (Nat.beq (sm_val wh (sm_pw 2)) 0 && (Nat.beq (sm_val wh (sm_pw 3)) 0 && Nat.beq (sm_val wh (sm_pw 4)) 0))
noncomputable def sm_ok (w : Nat → Nat) (m : Nat → Bool) : Bool :=
  Nat.ble (sm_ct m 7) 4 && (sm_cd (sm_wh w m) && Nat.ble (2 * sm_df w m (sm_wh w m) + sm_ct m 7) 4)
end
section
/-! ===== a state's array holds a picture ===== -/
def sm_S (a : Nat → Int32) (n : Nat) (f : Nat → Nat) : Prop := ∀ j, j < n → a j = nI (f j) ∧ f j < 8
def sm_T (a3 a4 : Nat → Int32) : Prop := (∀ j, j < 14 → a3 j = nI (sm_pw j)) ∧ (∀ j, j < 8 → a4 j = nI (sm_ex j))
def sm_M (a : Nat → Int32) (m : Nat → Bool) : Prop := ∀ j, j < 7 → a j = nI (cond (m j) 1 0)
/-- the syndromes: places 1 .. i - 1 -/
def sm_Y (a : Nat → Int32) (i : Nat) (S : Nat → Nat) : Prop := ∀ j, 1 ≤ j → j < i → a j = nI (S j) ∧ S j < 8
theorem sm_get {a : Nat → Int32} {N : Nat} {f : Nat → Nat} {j : Nat} (h : sm_S a N f) (hj : j < N) (h2 : j < 2 ^ 31 := by omega) : a (nI j).toNatClampNeg = nI (f j) := by
  rw [nI_clamp h2]; exact (h j hj).1
theorem sm_cg {a : Nat → Int32} {N : Nat} {f g : Nat → Nat} (h : sm_S a N f) (e : ∀ j, j < N → g j = f j) : sm_S a N g := by
  intro j hj
  rw [e j hj]
  exact h j hj
theorem sm_put {s : Nat → Int32} {N k v : Nat} {x : Int32} {g g' : Nat → Nat} (h : sm_S s N g) (hx : x = nI v) (hv : v < 8) (hk : g' k = v) (ho : ∀ j, j < N → j ≠ k → g' j = g j) : sm_S (upd s k x) N g' := by
  intro j hj
  by_cases e : j = k
  · rw [e, pk_us, hk]; exact ⟨hx, hv⟩
  · rw [pk_un e, ho j hj e]; exact h j hj
theorem sm_fill {s : Nat → Int32} {i k : Nat} {x : Int32} {f : Nat → Nat} (h : sm_S s i f) (hk : k = i) (hx : x = nI (f i)) (hv : f i < 8) : sm_S (upd s k x) (i + 1) f := by
  intro j hj
  rw [hk]
  by_cases e : j = i
  · rw [e, pk_us]; exact ⟨hx, hv⟩
  · rw [pk_un e]; exact h j (by omega)
/-- rising: the places below i are new -/
def sm_mx (f' f : Nat → Nat) (i j : Nat) : Nat := if j < i then f' j else f j
theorem sm_mx_0 {s : Nat → Int32} {N : Nat} {f' f : Nat → Nat} (h : sm_S s N f) : sm_S s N (sm_mx f' f 0) := sm_cg h (fun j _ => if_neg (by omega))
theorem sm_mx_N {s : Nat → Int32} {N : Nat} {f' f : Nat → Nat} (h : sm_S s N (sm_mx f' f N)) : sm_S s N f' := sm_cg h (fun j hj => (if_pos hj).symm)
theorem sm_mx_s {s : Nat → Int32} {N i k : Nat} {x : Int32} {f' f : Nat → Nat} (h : sm_S s N (sm_mx f' f i)) (hk : k = i) (hx : x = nI (f' i)) (hv : f' i < 8) : sm_S (upd s k x) N (sm_mx f' f (i + 1)) := by
  subst hk
  refine sm_put h hx hv (if_pos (by omega)) (fun j hj hn => ?_)
  unfold sm_mx
  by_cases e : j < k
  · rw [if_pos e, if_pos (by omega)]
  · rw [if_neg e, if_neg (by omega)]
theorem sm_mx_i (f' f : Nat → Nat) (i : Nat) : sm_mx f' f i i = f i := if_neg (by omega)
/-- falling: the places above i are new -/
def sm_md (f' f : Nat → Nat) (i j : Nat) : Nat := if i < j then f' j else f j
theorem sm_md_s {s : Nat → Int32} {N i k : Nat} {x : Int32} {f' f : Nat → Nat} (h : sm_S s N (sm_md f' f (i + 1))) (hk : k = i + 1) (hx : x = nI (f' (i + 1))) (hv : f' (i + 1) < 8) : sm_S (upd s k x) N (sm_md f' f i) := by
  subst hk
  refine sm_put h hx hv (if_pos (by omega)) (fun j hj hn => ?_)
  unfold sm_md
  by_cases e : i + 1 < j
  · rw [if_pos e, if_pos (by omega)]
  · rw [if_neg e, if_neg (by omega)]
theorem sm_md_i (f' f : Nat → Nat) (i : Nat) : sm_md f' f i i = f i := if_neg (by omega)
theorem sm_md_p (f' f : Nat → Nat) (i : Nat) : sm_md f' f (i + 1) i = f i := if_neg (by omega)
section
variable {fl fd : Int32} {a1 a2 a3 a4 a5 a6 a7 a8 a9 a10 : Nat → Int32}
/-! ===== symbols ===== -/
theorem sm_isSym {post : Int32 → Prop} {u : St2} {x : Nat} (hx : x < 8) (h : post 1) : wpX_isSymbol post u (nI x) :=
  br_f (nI_pos (by omega)) (br_f (nI_nlt (a := 7) (b := x) (by omega) (by omega)) h)
theorem sm_times {post : Int32 → Prop} {X Y : Int32} {x y : Nat} (hT : sm_T a3 a4) (hX : X = nI x) (hx : x < 8) (hY : Y = nI y) (hy : y < 8) (h : post (nI (sm_gm x y))) :
    wpX_times post (fl, fd, a1, a2, a3, a4, a5, a6, a7, a8, a9, a10) X Y := by
  subst hX hY
  refine pk_eq x 0 (fun e => ?_) (fun ne => pk_eq y 0 (fun e => ?_) (fun ne' => ⟨pk_in x 8 hx, pk_in y 8 hy, ?_⟩))
  · subst e
    rw [sm_gm_0y y hy] at h
    exact h
  · subst e
    rw [sm_gm_x0 x hx] at h
    exact h
  · have e : a4 (nI x).toNatClampNeg + a4 (nI y).toNatClampNeg = nI (sm_ex x + sm_ex y) := by
      rw [nI_clamp (by omega), nI_clamp (by omega), hT.2 x hx, hT.2 y hy, nI_add]
    have b1 := sm_ex_lt x hx
    have b2 := sm_ex_lt y hy
    have hb : sm_ex x + sm_ex y < 14 := by omega
    rw [e]
    refine ⟨pk_in _ 14 hb, ?_⟩
    rw [nI_clamp (by omega), hT.1 _ hb, ← sm_gm_pw x hx y hy ne ne']
    exact h
theorem sm_over {post : Int32 → Prop} {X Y : Int32} {x y : Nat} (hT : sm_T a3 a4) (hX : X = nI x) (hx : x < 8) (hY : Y = nI y) (hy : y < 8) (h : post (nI (sm_gd x y))) :
    wpX_over post (fl, fd, a1, a2, a3, a4, a5, a6, a7, a8, a9, a10) X Y := by
  subst hX hY
  refine pk_eq x 0 (fun e => ?_) (fun ne => ⟨pk_in x 8 hx, pk_in y 8 hy, ?_⟩)
  · subst e
    rw [sm_gd_0y y hy] at h
    exact h
  · have b1 := sm_ex_lt x hx
    have b2 := sm_ex_lt y hy
    have e : a4 (nI x).toNatClampNeg + 7 - a4 (nI y).toNatClampNeg = nI (sm_ex x + 7 - sm_ex y) := by
      rw [nI_clamp (by omega), nI_clamp (by omega), hT.2 x hx, hT.2 y hy]
      show nI (sm_ex x) + nI 7 - nI (sm_ex y) = _
      rw [nI_add, pk_sub (by omega)]
    have hb : sm_ex x + 7 - sm_ex y < 14 := by omega
    rw [e]
    refine ⟨pk_in _ 14 hb, ?_⟩
    rw [nI_clamp (by omega), hT.1 _ hb, ← sm_gd_pw x hx y hy ne]
    exact h
/-! ===== valueOf ===== -/
theorem sm_vo6 {post : Int32 → Prop} {w : Nat → Nat} {x : Nat} {X : Int32} (hT : sm_T a3 a4) (hw : sm_S a1 7 w) (hx : x < 8) (hX : X = nI x) (h : post (nI (sm_val w x))) :
    ∀ k n, k ≤ 7 → k < n → wX_valueOf_6 post X fl fd a1 a2 a3 a4 a5 a6 a7 a8 a9 a10 n (nI (sm_v w x (7 - k))) (nI k + (-1)) := by
  intro k
  induction k with
  | zero =>
    intro n _ hn
    obtain ⟨n, rfl⟩ : ∃ m, n = m + 1 := ⟨n - 1, by omega⟩
    exact br_t (by decide) h
  | succ k ih =>
    intro n hk hn
    obtain ⟨n, rfl⟩ : ∃ m, n = m + 1 := ⟨n - 1, by omega⟩
    rw [pk_m1]
    have hv : ∀ j, j < 7 → w j < 8 := fun j hj => (hw j hj).2
    refine br_f (nI_pos (by omega)) (sm_times hT rfl (sm_v_lt hv) hX hx ⟨pk_in k 7 (by omega), nm_r ?_ (nm_e (ih n (by omega) (by omega)))⟩)
    rw [sm_get hw (by omega), sm_nx, show 7 - k = 7 - (k + 1) + 1 by omega, sm_v_s, show 6 - (7 - (k + 1)) = k by omega]
theorem sm_valueOf {post : Int32 → Prop} {w : Nat → Nat} {x : Nat} {X : Int32} (hT : sm_T a3 a4) (hw : sm_S a1 7 w) (hx : x < 8) (hX : X = nI x) (h : post (nI (sm_val w x))) :
    wpX_valueOf post (fl, fd, a1, a2, a3, a4, a5, a6, a7, a8, a9, a10) X :=
  ⟨8, sm_vo6 hT hw hx hX h 7 8 (by omega) (by omega)⟩
theorem sm_vo26 {post : Int32 → Prop} {w : Nat → Nat} {x : Nat} {X : Int32} (hT : sm_T a3 a4) (hw : sm_S a10 7 w) (hx : x < 8) (hX : X = nI x) (h : post (nI (sm_val w x))) :
    ∀ k n, k ≤ 7 → k < n → wX_valueOf_2_6 post X fl fd a1 a2 a3 a4 a5 a6 a7 a8 a9 a10 n (nI (sm_v w x (7 - k))) (nI k + (-1)) := by
  intro k
  induction k with
  | zero =>
    intro n _ hn
    obtain ⟨n, rfl⟩ : ∃ m, n = m + 1 := ⟨n - 1, by omega⟩
    exact br_t (by decide) h
  | succ k ih =>
    intro n hk hn
    obtain ⟨n, rfl⟩ : ∃ m, n = m + 1 := ⟨n - 1, by omega⟩
    rw [pk_m1]
    have hv : ∀ j, j < 7 → w j < 8 := fun j hj => (hw j hj).2
    refine br_f (nI_pos (by omega)) (sm_times hT rfl (sm_v_lt hv) hX hx ⟨pk_in k 7 (by omega), nm_r ?_ (nm_e (ih n (by omega) (by omega)))⟩)
    rw [sm_get hw (by omega), sm_nx, show 7 - k = 7 - (k + 1) + 1 by omega, sm_v_s, show 6 - (7 - (k + 1)) = k by omega]
theorem sm_valueOf2 {post : Int32 → Prop} {w : Nat → Nat} {x : Nat} {X : Int32} (hT : sm_T a3 a4) (hw : sm_S a10 7 w) (hx : x < 8) (hX : X = nI x) (h : post (nI (sm_val w x))) :
    wpX_valueOf_2 post (fl, fd, a1, a2, a3, a4, a5, a6, a7, a8, a9, a10) X :=
  ⟨8, sm_vo26 hT hw hx hX h 7 8 (by omega) (by omega)⟩
/-! ===== lengthen ===== -/
theorem sm_len81 {post : St1 → Prop} {g : Nat} {X1 X2 X3 : Int32} {R : Nat → Nat} (hT : sm_T a3 a4) (hX : X1 = nI g) (hg : g < 8) (h8 : sm_S a8 10 R)
    (H : ∀ b7, sm_S b7 10 (fun k => sm_gd (R k) g) → post (X2 + X3 - fl, fd, a1, a2, a3, a4, a5, a6, b7, a8, a9, a10)) :
    ∃ fu, wX_lengthen_81 post X1 X2 X3 fl fd fu 0 a1 a2 a3 a4 a5 a6 a7 a8 a9 a10 :=
  pk_loop (fun n i s => wX_lengthen_81 post X1 X2 X3 fl fd n (nI i) a1 a2 a3 a4 a5 a6 s a8 a9 a10) (fun i s => sm_S s i (fun k => sm_gd (R k) g)) 10 0 a7 (by omega) (fun j hj => absurd hj (by omega))
    (fun n s h => pk_le 10 10 (fun _ => nm_e (H s h)) (fun z => absurd z (by omega)))
    (fun n i s hi h hw => pk_le 10 i (fun z => absurd z (by omega)) (fun _ => ⟨pk_in i 10 hi, sm_over hT (sm_get h8 hi) (h8 i hi).2 hX hg ⟨pk_in i 10 hi, nm_e (nm_r (nI_1 i) (hw _ (sm_fill h (nI_clamp (by omega)) rfl (sm_gd_lt _ _))))⟩⟩))
theorem sm_len24 {post : St1 → Prop} {g : Nat} {X1 X2 X3 X4 : Int32} {R Hh : Nat → Nat} (hT : sm_T a3 a4) (hX : X1 = nI g) (hg : g < 8) (h6 : sm_S a6 10 R) (h7 : sm_S a7 10 Hh)
    (H0 : X4 = 0 → ∀ b6 b8, sm_S b6 10 (fun k => Nat.xor (R k) (sm_gm g (Hh k))) → post (fl, fd, a1, a2, a3, a4, a5, b6, a7, b8, a9, a10))
    (H1 : ¬ X4 = 0 → ∀ b6 b7 b8, sm_S b6 10 (fun k => Nat.xor (R k) (sm_gm g (Hh k))) → sm_S b7 10 (fun k => sm_gd (R k) g) → post (X2 + X3 - fl, fd, a1, a2, a3, a4, a5, b6, b7, b8, a9, a10)) :
    ∃ fu, wX_lengthen_24 post X1 X2 X3 X4 fl fd fu 0 a1 a2 a3 a4 a5 a6 a7 a8 a9 a10 :=
  pk_loop (σ := (Nat → Int32) × (Nat → Int32)) (fun n i s => wX_lengthen_24 post X1 X2 X3 X4 fl fd n (nI i) a1 a2 a3 a4 a5 s.1 a7 s.2 a9 a10) (fun i s => sm_S s.1 10 (sm_mx (fun k => Nat.xor (R k) (sm_gm g (Hh k))) R i) ∧ sm_S s.2 i R) 10 0 (a6, a8) (by omega) ⟨sm_mx_0 h6, fun j hj => absurd hj (by omega)⟩
    (fun n s h => pk_le 10 10 (fun _ => ⟨fun z => H0 z _ _ (sm_mx_N h.1), fun z => sm_len81 hT hX hg h.2 (fun b7 hb => H1 z _ _ _ (sm_mx_N h.1) hb)⟩) (fun z => absurd z (by omega)))
    (fun n i s hi h hw => pk_le 10 i (fun z => absurd z (by omega)) (fun _ =>
      have e : s.1 (nI i).toNatClampNeg = nI (R i) := by rw [sm_get h.1 hi, sm_mx_i]
      ⟨pk_in i 10 hi, pk_in i 10 hi, nm_e ⟨pk_in i 10 hi, pk_in i 10 hi, sm_times hT hX hg (sm_get h7 hi) (h7 i hi).2
        ⟨pk_in i 10 hi, nm_e (nm_r (nI_1 i) (hw (_, _) ⟨sm_mx_s h.1 (nI_clamp (by omega)) (by rw [e, sm_nx]) (sm_xlt (h6 i hi).2 (sm_gm_lt _ _)), sm_fill h.2 (nI_clamp (by omega)) e (h6 i hi).2⟩))⟩⟩⟩))
end
end
section
section
variable {fl fd : Int32} {a1 a2 a3 a4 a5 a6 a7 a8 a9 a10 : Nat → Int32}
theorem sm_lo_f {len r lost : Nat} (h : r + lost - 1 < 2 * len) : sm_lo len r lost = false := by
  unfold sm_lo
  rw [Bool.eq_false_iff]
  intro t
  exact absurd (Nat.le_of_ble_eq_true t) (Nat.not_le_of_lt h)
theorem sm_lo_t {len r lost : Nat} (h : 2 * len ≤ r + lost - 1) : sm_lo len r lost = true := by
  unfold sm_lo
  exact Nat.ble_eq_true_of_le h
theorem sm_lL_f {len r lost : Nat} (h : sm_lo len r lost = false) : sm_lL len r lost = len := by
  unfold sm_lL; rw [h]; rfl
theorem sm_lL_t {len r lost : Nat} (h : sm_lo len r lost = true) : sm_lL len r lost = r + lost - len := by
  unfold sm_lL; rw [h]; rfl
theorem sm_lH_t (R H : Nat → Nat) (g : Nat) : sm_lH R H g true = sm_mm 10 (fun k => sm_gd (R k) g) := by
  unfold sm_lH; rw [cond_true]
theorem sm_lH_f (R H : Nat → Nat) (g : Nat) : sm_lH R H g false = H := by
  unfold sm_lH; rw [cond_false]
theorem sm_e1 {r lost : Nat} (h : 1 ≤ r) : nI r + nI lost - 1 = nI (r + lost - 1) := by
  rw [nI_add, show (1 : Int32) = nI 1 from rfl, pk_sub (by omega)]
theorem sm_e2 (len : Nat) : 2 * nI len = nI (2 * len) := by
  rw [show (2 : Int32) = nI 2 from rfl, pk_mul]
theorem sm_e3 {r lost len : Nat} (h : len ≤ r + lost) : nI r + nI lost - nI len = nI (r + lost - len) := by
  rw [nI_add, pk_sub h]
theorem sm_lengthen {post : St1 → Prop} {g len r lost : Nat} {R Hh : Nat → Nat} (hT : sm_T a3 a4) (hg : g < 8) (h6 : sm_S a6 10 R) (h7 : sm_S a7 10 Hh) (hr : 1 ≤ r) (hr' : r ≤ 100) (hl : lost ≤ 100) (hn : len ≤ 100)
    (H : ∀ b6 b7 b8, sm_S b6 10 (sm_lR R Hh g) → sm_S b7 10 (sm_lH R Hh g (sm_lo len r lost)) → post (nI (sm_lL len r lost), fd, a1, a2, a3, a4, a5, b6, b7, b8, a9, a10)) :
    wpX_lengthen post (nI len, fd, a1, a2, a3, a4, a5, a6, a7, a8, a9, a10) (nI g) (nI r) (nI lost) := by
  have c6 : ∀ b6, sm_S b6 10 (fun k => Nat.xor (R k) (sm_gm g (Hh k))) → sm_S b6 10 (sm_lR R Hh g) := fun b6 hb => sm_cg hb (fun j hj => sm_mm_eq (fun k hk => (hb k hk).2) hj)
  refine pk_lt (r + lost - 1) (2 * len) (fun z => ?_) (fun z => ?_) (sm_e1 hr) (sm_e2 len)
  · have hlo := sm_lo_f z
    rw [sm_lL_f hlo, hlo, sm_lH_f] at H
    exact sm_len24 hT rfl hg h6 h7 (fun _ b6 b8 hb => H b6 a7 b8 (c6 b6 hb) h7) (fun t => absurd rfl t)
  · have hlo := sm_lo_t z
    rw [sm_lL_t hlo, hlo, sm_lH_t] at H
    refine sm_len24 hT rfl hg h6 h7 (fun t => absurd t (by decide)) (fun _ b6 b7 b8 hb hb7 => ?_)
    rw [sm_e3 (by omega)]
    exact H b6 b7 b8 (c6 b6 hb) (sm_cg hb7 (fun j hj => sm_mm_eq (fun k hk => (hb7 k hk).2) hj))
/-! ===== buildRule ===== -/
theorem sm_sh_lt {Hh : Nat → Nat} (h : ∀ k, k < 10 → Hh k < 8) : ∀ k, k < 10 → sm_sh Hh k < 8 := by
  intro k hk
  cases k with
  | zero => exact (by decide : 0 < 8)
  | succ k => exact h k (by omega)
/-- the helper is moved up, then the rule is mended where the gap isn't 0 -/
theorem sm_br176 {post : St1 → Prop} {J : Int32 → Int32 → Int32 → (Nat → Int32) → (Nat → Int32) → (Nat → Int32) → (Nat → Int32) → (Nat → Int32) → (Nat → Int32) → (Nat → Int32) → (Nat → Int32) → (Nat → Int32) → (Nat → Int32) → Prop}
    {g len r lost : Nat} {R Hh : Nat → Nat} (hT : sm_T a3 a4) (hg : g < 8) (h6 : sm_S a6 10 R) (h7 : sm_S a7 10 Hh) (hr : 1 ≤ r) (hr' : r ≤ 100) (hl : lost ≤ 100) (hn : len ≤ 100)
    (H0 : g = 0 → ∀ b7, sm_S b7 10 (sm_sh Hh) → J (nI (r + 1)) (nI len) fd a1 a2 a3 a4 a5 a6 b7 a8 a9 a10)
    (H1 : g ≠ 0 → ∀ b6 b7 b8, sm_S b6 10 (sm_lR R (sm_sh Hh) g) → sm_S b7 10 (sm_lH R (sm_sh Hh) g (sm_lo len r lost)) → J (nI (r + 1)) (nI (sm_lL len r lost)) fd a1 a2 a3 a4 a5 b6 b7 b8 a9 a10) :
    ∃ fu, wX_buildRule_176 post J (nI lost) (nI r) (nI g) (nI len) fd fu 9 a1 a2 a3 a4 a5 a6 a7 a8 a9 a10 := by
  have hb : ∀ k, k < 10 → Hh k < 8 := fun k hk => (h7 k hk).2
  refine ⟨10, pk_loopD (fun n i s => i < 10 → wX_buildRule_176 post J (nI lost) (nI r) (nI g) (nI len) fd n (nI i) a1 a2 a3 a4 a5 a6 s a8 a9 a10) (fun i s => sm_S s 10 (sm_md (sm_sh Hh) Hh i)) ?_ ?_ 9 a7 ?_ (by omega)⟩
  · intro n s h _
    refine pk_le 0 0 (fun _ => nm_e ?_) (fun z => absurd z (by omega))
    have h0 : sm_S (upd s 0 0) 10 (sm_sh Hh) := by
      refine sm_put h (v := 0) rfl (by decide) rfl (fun j hj hn => ?_)
      exact (if_pos (by omega)).symm
    refine pk_eq g 0 (fun z => nm_r (nI_1 r) (H0 z _ h0)) (fun z => ?_)
    exact sm_lengthen hT hg h6 h0 hr hr' hl hn (fun b6 b7 b8 q6 q7 => nm_r (nI_1 r) (H1 z b6 b7 b8 q6 q7))
  · intro n i s h hw hi
    have e : nI (i + 1) - 1 = nI i := nI_pred i
    refine pk_le (i + 1) 0 (fun z => absurd z (by omega)) (fun _ => ⟨pk_in i 10 (by omega) e, pk_in (i + 1) 10 (by omega), nm_e (nm_r (pk_m1 i) (hw _ ?_ (by omega)))⟩)
    refine sm_md_s h (nI_clamp (by omega)) ?_ (sm_sh_lt hb (i + 1) (by omega))
    rw [e, sm_get h (by omega), sm_md_p]
    rfl
  · exact sm_cg h7 (fun j hj => if_neg (by omega))
/-- one turn: gap, move, mend -/
theorem sm_br137 {post : St1 → Prop} {J : Int32 → Int32 → Int32 → (Nat → Int32) → (Nat → Int32) → (Nat → Int32) → (Nat → Int32) → (Nat → Int32) → (Nat → Int32) → (Nat → Int32) → (Nat → Int32) → (Nat → Int32) → (Nat → Int32) → Prop}
    {r lost : Nat} {S : Nat → Nat} {B : (Nat → Nat) × (Nat → Nat) × Nat} (hT : sm_T a3 a4) (h5 : sm_Y a5 5 S) (h6 : sm_S a6 10 B.1) (h7 : sm_S a7 10 B.2.1) (hr : 1 ≤ r) (hr' : r ≤ 4) (hl : lost ≤ 4) (hn : B.2.2 ≤ 8)
    (H : ∀ b6 b7 b8, sm_S b6 10 (sm_st S lost r B).1 → sm_S b7 10 (sm_st S lost r B).2.1 → J (nI (r + 1)) (nI (sm_st S lost r B).2.2) fd a1 a2 a3 a4 a5 b6 b7 b8 a9 a10) :
    ∃ fu, wX_buildRule_137 post J (nI lost) (nI r) (nI B.2.2) fd a1 a2 a3 a4 a5 a6 a7 a8 a9 a10 fu 0 0 := by
  have hg : ∀ i, i ≤ r → sm_xs (fun k => sm_gm (B.1 k) (S (Nat.sub r k))) i < 8 := fun i _ => sm_xs_lt (fun k _ => sm_gm_lt _ _)
  refine pk_loop (fun n i s => wX_buildRule_137 post J (nI lost) (nI r) (nI B.2.2) fd a1 a2 a3 a4 a5 a6 a7 a8 a9 a10 n s (nI i)) (fun i s => s = nI (sm_xs (fun k => sm_gm (B.1 k) (S (Nat.sub r k))) i)) r 0 0 (by omega) rfl ?_ ?_
  · intro n s h
    subst h
    refine pk_le r r (fun _ => ?_) (fun z => absurd z (by omega))
    refine sm_br176 (g := sm_gap B.1 S r) hT (hg r (Nat.le_refl r)) h6 h7 hr (by omega) (by omega) (by omega) (fun z b7 q7 => ?_) (fun z b6 b7 b8 q6 q7 => ?_)
    · have e : sm_st S lost r B = (B.1, sm_sh B.2.1, B.2.2) := by unfold sm_st; rw [z]; rfl
      rw [e] at H
      exact H a6 b7 a8 h6 q7
    · have e : sm_st S lost r B = (sm_lR B.1 (sm_sh B.2.1) (sm_gap B.1 S r), sm_lH B.1 (sm_sh B.2.1) (sm_gap B.1 S r) (sm_lo B.2.2 r lost), sm_lL B.2.2 r lost) := by
        unfold sm_st
        rw [show Nat.beq (sm_gap B.1 S r) 0 = false from (Bool.eq_false_iff.mpr (fun t => z (Nat.eq_of_beq_eq_true t)))]
        rfl
      rw [e] at H
      exact H b6 b7 b8 q6 q7
  · intro n i s hi h hw
    subst h
    have e : nI r - nI i = nI (r - i) := pk_sub (by omega)
    refine pk_le r i (fun z => absurd z (by omega)) (fun _ => ⟨pk_in i 10 (by omega), pk_in (r - i) 5 (by omega) e, ?_⟩)
    refine sm_times hT (sm_get h6 (by omega)) (h6 i (by omega)).2 (y := S (r - i)) ?_ (h5 (r - i) (by omega) (by omega)).2 (nm_r (sm_nx _ _) (nm_r (nI_1 i) (hw _ rfl)))
    rw [e, nI_clamp (by omega)]
    exact (h5 (r - i) (by omega) (by omega)).1
end
end
section
section
variable {fl fd : Int32} {a1 a2 a3 a4 a5 a6 a7 a8 a9 a10 : Nat → Int32}
theorem sm_bm_s (S : Nat → Nat) (lost : Nat) (R : Nat → Nat) (n : Nat) : sm_bm S lost R (n + 1) = sm_st S lost (lost + 1 + n) (sm_bm S lost R n) := rfl
theorem sm_bm_0 (S : Nat → Nat) (lost : Nat) (R : Nat → Nat) : sm_bm S lost R 0 = (R, R, lost) := rfl
theorem sm_st_len {S : Nat → Nat} {lost r : Nat} {B : (Nat → Nat) × (Nat → Nat) × Nat} (h : B.2.2 ≤ 8) (hl : lost ≤ 4) (hr : r ≤ 4) : (sm_st S lost r B).2.2 ≤ 8 := by
  unfold sm_st
  cases Nat.beq (sm_gap B.1 S r) 0 with
  | true => exact h
  | false =>
    show sm_lL B.2.2 r lost ≤ 8
    cases e : sm_lo B.2.2 r lost with
    | false => rw [sm_lL_f e]; exact h
    | true => rw [sm_lL_t e]; omega
/-- the turns r = lost + 1 .. 4 -/
theorem sm_br127 {post : St1 → Prop} {lost : Nat} {S R : Nat → Nat} (hT : sm_T a3 a4) (h5 : sm_Y a5 5 S) (h6 : sm_S a6 10 R) (h7 : sm_S a7 10 R) (hl : lost ≤ 4)
    (H : ∀ f b6 b7 b8, sm_S b6 10 (sm_bm S lost R (4 - lost)).1 → post (f, fd, a1, a2, a3, a4, a5, b6, b7, b8, a9, a10)) :
    ∃ fu, wX_buildRule_127 post (nI lost) fu (nI (lost + 1)) (nI lost) fd a1 a2 a3 a4 a5 a6 a7 a8 a9 a10 := by
  refine pk_loop (σ := Int32 × (Nat → Int32) × (Nat → Int32) × (Nat → Int32)) (fun n i s => wX_buildRule_127 post (nI lost) n (nI i) s.1 fd a1 a2 a3 a4 a5 s.2.1 s.2.2.1 s.2.2.2 a9 a10)
    (fun i s => lost + 1 ≤ i ∧ s.1 = nI (sm_bm S lost R (i - (lost + 1))).2.2 ∧ (sm_bm S lost R (i - (lost + 1))).2.2 ≤ 8 ∧ sm_S s.2.1 10 (sm_bm S lost R (i - (lost + 1))).1 ∧ sm_S s.2.2.1 10 (sm_bm S lost R (i - (lost + 1))).2.1) 5 (lost + 1) (nI lost, a6, a7, a8) (by omega) ?_ ?_ ?_
  · rw [Nat.sub_self, sm_bm_0]
    exact ⟨Nat.le_refl _, rfl, by show lost ≤ 8; omega, h6, h7⟩
  · intro n s h
    refine pk_le 5 5 (fun _ => ?_) (fun z => absurd z (by omega))
    have e : 5 - (lost + 1) = 4 - lost := by omega
    rw [e] at h
    exact H _ _ _ _ h.2.2.2.1
  · intro n i s hi h hw
    obtain ⟨s1, s2, s3, s4⟩ := s
    obtain ⟨k0, k1, k2, k3, k4⟩ := h
    dsimp only at k1 k3 k4
    subst k1
    refine pk_le 5 i (fun z => absurd z (by omega)) (fun _ => ?_)
    refine sm_br137 (S := S) hT h5 k3 k4 (by omega) (by omega) hl k2 (fun b6 b7 b8 q6 q7 => hw (_, b6, b7, b8) ?_)
    have e : i + 1 - (lost + 1) = i - (lost + 1) + 1 := by omega
    have e2 : lost + 1 + (i - (lost + 1)) = i := by omega
    rw [e, sm_bm_s, e2]
    exact ⟨by omega, rfl, sm_st_len k2 hl (by omega), q6, q7⟩
/-- the helper begins as the rule -/
theorem sm_br94 {post : St1 → Prop} {lost : Nat} {S R : Nat → Nat} (hT : sm_T a3 a4) (h5 : sm_Y a5 5 S) (h6 : sm_S a6 10 R) (hl : lost ≤ 4)
    (H : ∀ f b6 b7 b8, sm_S b6 10 (sm_bm S lost R (4 - lost)).1 → post (f, fd, a1, a2, a3, a4, a5, b6, b7, b8, a9, a10)) :
    ∃ fu, wX_buildRule_94 post (nI lost) fl fd fu 0 a1 a2 a3 a4 a5 a6 a7 a8 a9 a10 :=
  pk_loop (fun n i s => wX_buildRule_94 post (nI lost) fl fd n (nI i) a1 a2 a3 a4 a5 a6 s a8 a9 a10) (fun i s => sm_S s i R) 10 0 a7 (by omega) (fun j hj => absurd hj (by omega))
    (fun n s h => pk_le 10 10 (fun _ => nm_r (nI_1 lost) (sm_br127 hT h5 h6 h hl H)) (fun z => absurd z (by omega)))
    (fun n i s hi h hw => pk_le 10 i (fun z => absurd z (by omega)) (fun _ => ⟨pk_in i 10 hi, pk_in i 10 hi, nm_e (nm_r (nI_1 i) (hw _ (sm_fill h (nI_clamp (by omega)) (sm_get h6 hi) (h6 i hi).2)))⟩))
theorem sm_rF_lt {R : Nat → Nat} {x : Nat} (h : ∀ k, k < 10 → R k < 8) : ∀ k, k < 10 → sm_rF R x k < 8 := by
  intro k hk
  cases k with
  | zero => exact h 0 (by omega)
  | succ k => exact sm_xlt (h (k + 1) hk) (sm_gm_lt _ _)
theorem sm_rS_eq {R : Nat → Nat} {x : Nat} (h : ∀ k, k < 10 → R k < 8) {k : Nat} (hk : k < 10) : sm_rS R x k = sm_rF R x k := by
  unfold sm_rS
  exact sm_mm_eq (sm_rF_lt h) hk
/-- a missing place is a factor of the rule -/
theorem sm_br40 {post : St1 → Prop} {J : Int32 → (Nat → Int32) → (Nat → Int32) → (Nat → Int32) → (Nat → Int32) → (Nat → Int32) → (Nat → Int32) → (Nat → Int32) → (Nat → Int32) → (Nat → Int32) → (Nat → Int32) → Prop}
    {X1 : Int32} {p : Nat} {m : Nat → Bool} {R : Nat → Nat} (hT : sm_T a3 a4) (h2 : sm_M a2 m) (h6 : sm_S a6 10 R) (hp : p < 7)
    (H : ∀ b6, sm_S b6 10 (cond (m p) (sm_rS R (sm_pw p)) R) → J (nI (p + 1)) a1 a2 a3 a4 a5 b6 a7 a8 a9 a10) :
    ∃ fu, wX_buildRule_40 post J X1 (nI p) fl fd fu 9 a1 a2 a3 a4 a5 a6 a7 a8 a9 a10 := by
  have e2 : a2 (nI p).toNatClampNeg = nI (cond (m p) 1 0) := by rw [nI_clamp (by omega)]; exact h2 p hp
  cases hm : m p with
  | false =>
    rw [hm, cond_false] at H
    rw [hm] at e2
    exact ⟨1, pk_le 9 0 (fun z => absurd z (by omega)) (fun _ => ⟨pk_in p 7 hp, br_t e2 (nm_r (nI_1 p) (H a6 h6))⟩)⟩
  | true =>
    rw [hm, cond_true] at H
    rw [hm] at e2
    have e2' : ¬ a2 (nI p).toNatClampNeg = 0 := by rw [e2]; decide
    have hb : ∀ k, k < 10 → R k < 8 := fun k hk => (h6 k hk).2
    refine ⟨10, pk_loopD (fun n i s => i < 10 → wX_buildRule_40 post J X1 (nI p) fl fd n (nI i) a1 a2 a3 a4 a5 s a7 a8 a9 a10) (fun i s => sm_S s 10 (sm_md (sm_rF R (sm_pw p)) R i)) ?_ ?_ 9 a6 ?_ (by omega)⟩
    · intro n s h _
      refine pk_le 0 0 (fun _ => nm_r (nI_1 p) (H s (sm_cg h (fun j hj => ?_)))) (fun z => absurd z (by omega))
      rw [sm_rS_eq hb hj]
      unfold sm_md
      cases j with
      | zero => exact (if_neg (by omega)).symm
      | succ j => exact (if_pos (by omega)).symm
    · intro n i s h hw hi
      have e : nI (i + 1) - 1 = nI i := nI_pred i
      refine pk_le (i + 1) 0 (fun z => absurd z (by omega)) (fun _ => ⟨pk_in p 7 hp, br_f e2' ⟨pk_in (i + 1) 10 hi, pk_in i 10 (by omega) e, pk_in p 14 (by omega), ?_⟩⟩)
      refine sm_times hT (x := R i) (y := sm_pw p) ?_ (hb i (by omega)) ?_ (sm_pw_lt p) ⟨pk_in (i + 1) 10 hi, nm_e (nm_r (pk_m1 i) (hw _ ?_ (by omega)))⟩
      · rw [e, sm_get h (by omega), sm_md_p]
      · rw [nI_clamp (by omega)]; exact hT.1 p (by omega)
      · refine sm_md_s h (nI_clamp (by omega)) ?_ (sm_rF_lt hb (i + 1) hi)
        rw [sm_get h hi, sm_md_i, sm_nx]
        rfl
    · exact sm_cg h6 (fun j hj => if_neg (by omega))
theorem sm_RL_s (m : Nat → Bool) (n : Nat) : sm_RL m (n + 1) = cond (m n) (sm_rS (sm_RL m n) (sm_pw n)) (sm_RL m n) := rfl
theorem sm_br31 {post : St1 → Prop} {lost : Nat} {S : Nat → Nat} {m : Nat → Bool} (hT : sm_T a3 a4) (h2 : sm_M a2 m) (h5 : sm_Y a5 5 S) (h6 : sm_S a6 10 sm_r0) (hl : lost ≤ 4)
    (H : ∀ f b6 b7 b8, sm_S b6 10 (sm_bm S lost (sm_RL m 7) (4 - lost)).1 → post (f, fd, a1, a2, a3, a4, a5, b6, b7, b8, a9, a10)) :
    ∃ fu, wX_buildRule_31 post (nI lost) fl fd fu 0 a1 a2 a3 a4 a5 a6 a7 a8 a9 a10 :=
  pk_loop (fun n i s => wX_buildRule_31 post (nI lost) fl fd n (nI i) a1 a2 a3 a4 a5 s a7 a8 a9 a10) (fun i s => sm_S s 10 (sm_RL m i)) 7 0 a6 (by omega) h6
    (fun n s h => pk_le 7 7 (fun _ => sm_br94 hT h5 h hl H) (fun z => absurd z (by omega)))
    (fun n i s hi h hw => pk_le 7 i (fun z => absurd z (by omega)) (fun _ => sm_br40 hT h2 h hi (fun b6 hb => hw b6 (by rw [sm_RL_s]; exact hb))))
theorem sm_br2 {post : St1 → Prop} {lost : Nat} {S : Nat → Nat} {m : Nat → Bool} (hT : sm_T a3 a4) (h2 : sm_M a2 m) (h5 : sm_Y a5 5 S) (hl : lost ≤ 4)
    (H : ∀ f b6 b7 b8, sm_S b6 10 (sm_bm S lost (sm_RL m 7) (4 - lost)).1 → post (f, fd, a1, a2, a3, a4, a5, b6, b7, b8, a9, a10)) :
    ∃ fu, wX_buildRule_2 post (nI lost) fl fd fu 0 a1 a2 a3 a4 a5 a6 a7 a8 a9 a10 :=
  pk_loop (fun n i s => wX_buildRule_2 post (nI lost) fl fd n (nI i) a1 a2 a3 a4 a5 s a7 a8 a9 a10) (fun i s => sm_S s i sm_r0) 10 0 a6 (by omega) (fun j hj => absurd hj (by omega))
    (fun n s h => pk_le 10 10 (fun _ => sm_br31 hT h2 h5 h hl H) (fun z => absurd z (by omega)))
    (fun n i s hi h hw => pk_le 10 i (fun z => absurd z (by omega)) (fun _ => pk_eq i 0
      (fun z => ⟨pk_in i 10 hi, nm_e (nm_r (nI_1 i) (hw _ (sm_fill h (nI_clamp (by omega)) (by rw [z]; rfl) (by rw [z]; decide))))⟩)
      (fun z => have e : sm_r0 i = 0 := by
                  unfold sm_r0
                  rw [show Nat.beq i 0 = false from Bool.eq_false_iff.mpr (fun t => z (Nat.eq_of_beq_eq_true t)), cond_false]
        ⟨pk_in i 10 hi, nm_e (nm_r (nI_1 i) (hw _ (sm_fill h (nI_clamp (by omega)) (by rw [e]; rfl) (by rw [e]; decide))))⟩)))
theorem sm_buildRule {post : St1 → Prop} {lost : Nat} {S : Nat → Nat} {m : Nat → Bool} (hT : sm_T a3 a4) (h2 : sm_M a2 m) (h5 : sm_Y a5 5 S) (hl : lost ≤ 4)
    (H : ∀ f b6 b7 b8, sm_S b6 10 (sm_bm S lost (sm_RL m 7) (4 - lost)).1 → post (f, fd, a1, a2, a3, a4, a5, b6, b7, b8, a9, a10)) :
    wpX_buildRule post (fl, fd, a1, a2, a3, a4, a5, a6, a7, a8, a9, a10) (nI lost) := sm_br2 hT h2 h5 hl H
end
end
section
theorem sm_bt {a b : Nat} (h : a = b) : Nat.beq a b = true := by rw [h]; exact Nat.beq_refl b
theorem sm_bf {a b : Nat} (h : a ≠ b) : Nat.beq a b = false := Bool.eq_false_iff.mpr (fun t => h (Nat.eq_of_beq_eq_true t))
theorem sm_lt {a b : Nat} (h : a ≤ b) : Nat.ble a b = true := Nat.ble_eq_true_of_le h
theorem sm_lf {a b : Nat} (h : b < a) : Nat.ble a b = false := Bool.eq_false_iff.mpr (fun t => absurd (Nat.le_of_ble_eq_true t) (Nat.not_le_of_lt h))
theorem sm_xp_s (b k : Nat) : sm_xp b (k + 1) = sm_gm (sm_xp b k) b := rfl
theorem sm_xp_lt (b k : Nat) : sm_xp b k < 8 := by
  cases k with
  | zero => exact (by decide : 1 < 8)
  | succ k => rw [sm_xp_s]; exact sm_gm_lt _ _
theorem sm_su_s (R : Nat → Nat) (b n : Nat) : sm_su R b (n + 1) = Nat.xor (sm_su R b n) (sm_gm (R n) (sm_xp b n)) := rfl
theorem sm_od_s (R : Nat → Nat) (b n : Nat) : sm_od R b (n + 1) = Nat.xor (sm_od R b n) (cond (Nat.beq (Nat.mod n 2) 0) 0 (sm_gm (R n) (sm_xp b n))) := rfl
theorem sm_up_s (N : Nat → Nat) (b n : Nat) : sm_up N b (n + 1) = Nat.xor (sm_up N b n) (cond (Nat.ble 4 n) 0 (sm_gm (N n) (sm_xp b n))) := rfl
theorem sm_od_lt (R : Nat → Nat) (b n : Nat) : sm_od R b n < 8 := sm_xs_lt (fun k _ => by cases Nat.beq (Nat.mod k 2) 0 with
  | true => exact (by decide : 0 < 8)
  | false => exact sm_gm_lt _ _)
theorem sm_up_lt (N : Nat → Nat) (b n : Nat) : sm_up N b n < 8 := sm_xs_lt (fun k _ => by cases Nat.ble 4 k with
  | true => exact (by decide : 0 < 8)
  | false => exact sm_gm_lt _ _)
theorem sm_su_lt (R : Nat → Nat) (b n : Nat) : sm_su R b n < 8 := sm_xs_lt (fun k _ => sm_gm_lt _ _)
theorem sm_co_1 {R N : Nat → Nat} {p : Nat} (h : sm_su R (sm_pw (7 - p)) 8 ≠ 0) : sm_co R N p = 0 := by
  unfold sm_co; rw [show Nat.sub 7 p = 7 - p from rfl, sm_bf h, cond_false]
theorem sm_co_2 {R N : Nat → Nat} {p : Nat} (h : sm_su R (sm_pw (7 - p)) 8 = 0) (h2 : sm_od R (sm_pw (7 - p)) 8 = 0) : sm_co R N p = 0 := by
  unfold sm_co; rw [show Nat.sub 7 p = 7 - p from rfl, sm_bt h, cond_true, sm_bt h2, cond_true]
theorem sm_co_3 {R N : Nat → Nat} {p : Nat} (h : sm_su R (sm_pw (7 - p)) 8 = 0) (h2 : sm_od R (sm_pw (7 - p)) 8 ≠ 0) : sm_co R N p = sm_gd (sm_up N (sm_pw (7 - p)) 8) (sm_gm (sm_od R (sm_pw (7 - p)) 8) (sm_pw p)) := by
  unfold sm_co; rw [show Nat.sub 7 p = 7 - p from rfl, sm_bt h, cond_true, sm_bf h2, cond_false]
theorem sm_co_lt (R N : Nat → Nat) (p : Nat) : sm_co R N p < 8 := by
  by_cases h : sm_su R (sm_pw (7 - p)) 8 = 0
  · by_cases h2 : sm_od R (sm_pw (7 - p)) 8 = 0
    · rw [sm_co_2 h h2]; decide
    · rw [sm_co_3 h h2]; exact sm_gd_lt _ _
  · rw [sm_co_1 h]; decide
theorem sm_nF_s (R S : Nat → Nat) (k i : Nat) : sm_nF R S k (i + 1) = Nat.xor (sm_nF R S k i) (sm_gm (R i) (S (k - i + 1))) := rfl
theorem sm_nF_lt (R S : Nat → Nat) (k i : Nat) : sm_nF R S k i < 8 := sm_xs_lt (fun k _ => sm_gm_lt _ _)
theorem sm_cd_iff {wh : Nat → Nat} : sm_cd wh = true ↔ ∀ j, 1 ≤ j → j < 5 → sm_val wh (sm_pw j) = 0 := by
  unfold sm_cd
  constructor
  · intro h j h1 h2
    simp only [Bool.and_eq_true] at h
    obtain ⟨c1, c2, c3, c4⟩ := h
    rcases (by omega : j = 1 ∨ j = 2 ∨ j = 3 ∨ j = 4) with e | e | e | e
    · rw [e]; exact Nat.eq_of_beq_eq_true c1
    · rw [e]; exact Nat.eq_of_beq_eq_true c2
    · rw [e]; exact Nat.eq_of_beq_eq_true c3
    · rw [e]; exact Nat.eq_of_beq_eq_true c4
  · intro h
    rw [sm_bt (h 1 (by omega) (by omega)), sm_bt (h 2 (by omega) (by omega)), sm_bt (h 3 (by omega) (by omega)), sm_bt (h 4 (by omega) (by omega))]
    rfl
section
variable {fl fd : Int32} {a1 a2 a3 a4 a5 a6 a7 a8 a9 a10 : Nat → Int32}
/-! ===== findNumerator ===== -/
theorem sm_fn16 {post : St1 → Prop} {J : Int32 → (Nat → Int32) → (Nat → Int32) → (Nat → Int32) → (Nat → Int32) → (Nat → Int32) → (Nat → Int32) → (Nat → Int32) → (Nat → Int32) → (Nat → Int32) → (Nat → Int32) → Prop}
    {k : Nat} {R S : Nat → Nat} (hT : sm_T a3 a4) (h5 : sm_Y a5 5 S) (h6 : sm_S a6 10 R) (hk : k < 4) (h9 : sm_S a9 k (fun k => sm_nF R S k (k + 1)))
    (H : ∀ b9, sm_S b9 (k + 1) (fun k => sm_nF R S k (k + 1)) → J (nI (k + 1)) a1 a2 a3 a4 a5 a6 a7 a8 b9 a10) :
    ∃ fu, wX_findNumerator_16 post J (nI k) fl fd fu 0 a1 a2 a3 a4 a5 a6 a7 a8 (upd a9 k 0) a10 := by
  refine pk_loop (fun n i s => wX_findNumerator_16 post J (nI k) fl fd n (nI i) a1 a2 a3 a4 a5 a6 a7 a8 s a10) (fun i s => sm_S s (k + 1) (fun j => if j = k then sm_nF R S k i else sm_nF R S j (j + 1))) (k + 1) 0 (upd a9 k 0) (by omega) ?_ ?_ ?_
  · intro j hj
    dsimp only
    by_cases e : j = k
    · rw [e, pk_us, if_pos rfl]; exact ⟨rfl, sm_nF_lt R S k 0⟩
    · rw [pk_un e, if_neg e]; exact h9 j (by omega)
  · intro n s h
    refine pk_lt k (k + 1) (fun _ => nm_r (nI_1 k) (H s (sm_cg h (fun j hj => ?_)))) (fun z => absurd z (by omega))
    by_cases e : j = k
    · rw [if_pos e, e]
    · rw [if_neg e]
  · intro n i s hi h hw
    have e : nI k - nI i + 1 = nI (k - i + 1) := by rw [pk_sub (by omega), nI_1]
    refine pk_lt k i (fun z => absurd z (by omega)) (fun _ => ⟨pk_in k 4 hk, pk_in i 10 (by omega), pk_in (k - i + 1) 5 (by omega) e, ?_⟩)
    refine sm_times hT (sm_get h6 (by omega)) (h6 i (by omega)).2 (y := S (k - i + 1)) ?_ (h5 (k - i + 1) (by omega) (by omega)).2 ⟨pk_in k 4 hk, nm_e (nm_r (nI_1 i) (hw _ ?_))⟩
    · rw [e, nI_clamp (by omega)]; exact (h5 (k - i + 1) (by omega) (by omega)).1
    · rw [nI_clamp (show k < 2 ^ 31 by omega)]
      refine sm_put h (v := sm_nF R S k (i + 1)) ?_ (sm_nF_lt _ _ _ _) (if_pos rfl) (fun j hj hn => ?_)
      · rw [(h k (by omega)).1]
        dsimp only
        rw [if_pos rfl, sm_nx]
        rfl
      · skip
        rw [if_neg hn, if_neg hn]
theorem sm_findNumerator {post : St1 → Prop} {R S : Nat → Nat} (hT : sm_T a3 a4) (h5 : sm_Y a5 5 S) (h6 : sm_S a6 10 R)
    (H : ∀ b9, sm_S b9 4 (sm_nu R S) → post (fl, fd, a1, a2, a3, a4, a5, a6, a7, a8, b9, a10)) :
    wpX_findNumerator post (fl, fd, a1, a2, a3, a4, a5, a6, a7, a8, a9, a10) :=
  pk_loop (fun n i s => wX_findNumerator_2 post fl fd n (nI i) a1 a2 a3 a4 a5 a6 a7 a8 s a10) (fun i s => sm_S s i (fun k => sm_nF R S k (k + 1))) 4 0 a9 (by omega) (fun j hj => absurd hj (by omega))
    (fun n s h => pk_le 4 4 (fun _ => H s (sm_cg h (fun j hj => sm_mm_eq (fun k _ => sm_nF_lt R S k (k + 1)) hj))) (fun z => absurd z (by omega)))
    (fun n i s hi h hw => pk_le 4 i (fun z => absurd z (by omega)) (fun _ => ⟨pk_in i 4 hi, nm_r (by rw [nI_clamp (show i < 2 ^ 31 by omega)]) (sm_fn16 hT h5 h6 hi h (fun b9 hb => hw b9 hb))⟩))
/-! ===== correct ===== -/
theorem sm_c94 {post : St1 → Prop} {J : Int32 → Int32 → Int32 → Int32 → Int32 → Prop} {X1 X3 X4 : Int32} {b x k z0 z1 : Nat} (hT : sm_T a3 a4) (hb : b < 8) (hx : x < 8)
    (H : J X3 X4 (nI (Nat.xor z1 z0)) (nI (sm_gm x b)) (nI (k + 1))) :
    wX_correct_94 post J X1 (nI b) X3 X4 (nI x) (nI k) (nI z0) (nI z1) fl fd a1 a2 a3 a4 a5 a6 a7 a8 a9 a10 :=
  nm_r (sm_nx z1 z0) (sm_times hT rfl hx rfl hb (nm_r (nI_1 k) H))
theorem sm_c66 {post : St1 → Prop} {J : Int32 → Int32 → Int32 → Int32 → Int32 → Prop} {X1 X3 : Int32} {N : Nat → Nat} {b k z0 z1 : Nat} (hT : sm_T a3 a4) (h9 : sm_S a9 4 N) (hb : b < 8) (hk : k < 8)
    (H : J X3 (nI (Nat.xor z1 z0)) (nI (sm_up N b (k + 1))) (nI (sm_xp b (k + 1))) (nI (k + 1))) :
    wX_correct_66 post J X1 (nI b) X3 (nI (sm_up N b k)) (nI (sm_xp b k)) (nI k) (nI z0) (nI z1) fl fd a1 a2 a3 a4 a5 a6 a7 a8 a9 a10 := by
  refine nm_r (sm_nx z1 z0) (pk_le 4 k (fun z => ?_) (fun z => ⟨pk_in k 4 z, ?_⟩))
  · refine sm_c94 (z0 := 0) hT hb (sm_xp_lt b k) ?_
    rw [sm_up_s, sm_lt z, cond_true] at H
    exact H
  · refine sm_times hT (sm_get h9 z) (h9 k z).2 rfl (sm_xp_lt b k) (sm_c94 hT hb (sm_xp_lt b k) ?_)
    rw [sm_up_s, sm_lf z, cond_false] at H
    exact H
theorem sm_c24 {post : St1 → Prop} {p v : Nat} {R N : Nat → Nat} (hT : sm_T a3 a4) (h6 : sm_S a6 10 R) (h9 : sm_S a9 4 N) (hp : p < 7) (h10 : a10 p = nI v) (hv : v < 8)
    (H : ∀ b10, b10 p = nI (Nat.xor v (sm_co R N p)) → (∀ j, j ≠ p → b10 j = a10 j) → post (fl, fd, a1, a2, a3, a4, a5, a6, a7, a8, a9, b10)) :
    ∃ fu, wX_correct_24 post (nI p) (nI (sm_pw (7 - p))) fl fd a1 a2 a3 a4 a5 a6 a7 a8 a9 a10 fu 0 0 0 1 0 := by
  have hb : sm_pw (7 - p) < 8 := sm_pw_lt _
  refine pk_loop (σ := Unit) (fun n k _ => wX_correct_24 post (nI p) (nI (sm_pw (7 - p))) fl fd a1 a2 a3 a4 a5 a6 a7 a8 a9 a10 n (nI (sm_su R (sm_pw (7 - p)) k)) (nI (sm_od R (sm_pw (7 - p)) k)) (nI (sm_up N (sm_pw (7 - p)) k)) (nI (sm_xp (sm_pw (7 - p)) k)) (nI k)) (fun _ _ => True) 8 0 () (by omega) trivial ?_ ?_
  · intro n _ _
    refine pk_le 8 8 (fun _ => ?_) (fun z => absurd z (by omega))
    refine pk_eq (sm_su R (sm_pw (7 - p)) 8) 0 (fun z => pk_eq (sm_od R (sm_pw (7 - p)) 8) 0 (fun z2 => ?_) (fun z2 => ⟨pk_in p 14 (by omega), ?_⟩) rfl rfl ?_) (fun z => ?_) rfl rfl ?_
    · exact H a10 (by rw [sm_co_2 z z2, sm_x0]; exact h10) (fun j _ => rfl)
    · refine sm_times hT rfl (sm_od_lt _ _ _) (y := sm_pw p) ?_ (sm_pw_lt p) ⟨pk_in p 7 hp, sm_over hT rfl (sm_up_lt _ _ _) rfl (sm_gm_lt _ _) ⟨pk_in p 7 hp, nm_e (H _ ?_ ?_)⟩⟩
      · rw [nI_clamp (by omega)]; exact hT.1 p (by omega)
      · rw [nI_clamp (by omega), pk_us, h10, sm_nx, sm_co_3 z z2]
      · intro j hj
        rw [nI_clamp (by omega), pk_un hj]
    · have := sm_od_lt R (sm_pw (7 - p)) 8; omega
    · exact H a10 (by rw [sm_co_1 z, sm_x0]; exact h10) (fun j _ => rfl)
    · have := sm_su_lt R (sm_pw (7 - p)) 8; omega
  · intro n k _ hk _ hw
    refine pk_le 8 k (fun z => absurd z (by omega)) (fun _ => ⟨pk_in k 10 (by omega), ?_⟩)
    refine sm_times hT (sm_get h6 (by omega)) (h6 k (by omega)).2 rfl (sm_xp_lt _ _) (nm_r (sm_nx _ _) ?_)
    have ek : nI k &&& 1 = nI (k % 2) := pk_andN (by omega) 1 (by decide)
    refine pk_eq (k % 2) 0 (fun z => ?_) (fun z => ?_) ek
    · refine sm_c66 (z0 := 0) hT h9 hb (by omega) ?_
      have t := hw () trivial
      rw [sm_su_s, sm_od_s, show Nat.beq (Nat.mod k 2) 0 = true from sm_bt z, cond_true] at t
      exact t
    · refine sm_c66 hT h9 hb (by omega) ?_
      have t := hw () trivial
      rw [sm_su_s, sm_od_s, show Nat.beq (Nat.mod k 2) 0 = false from sm_bf z, cond_false] at t
      exact t
theorem sm_correct {post : St1 → Prop} {p v : Nat} {R N : Nat → Nat} (hT : sm_T a3 a4) (h6 : sm_S a6 10 R) (h9 : sm_S a9 4 N) (hp : p < 7) (h10 : a10 p = nI v) (hv : v < 8)
    (H : ∀ b10, b10 p = nI (Nat.xor v (sm_co R N p)) → (∀ j, j ≠ p → b10 j = a10 j) → post (fl, fd, a1, a2, a3, a4, a5, a6, a7, a8, a9, b10)) :
    wpX_correct post (fl, fd, a1, a2, a3, a4, a5, a6, a7, a8, a9, a10) (nI p) := by
  have e : 7 - nI p = nI (7 - p) := by
    rw [show (7 : Int32) = nI 7 from rfl, pk_sub (by omega)]
  refine ⟨pk_in (7 - p) 14 (by omega) e, nm_r ?_ (sm_c24 hT h6 h9 hp h10 hv H)⟩
  rw [e, nI_clamp (by omega)]
  exact hT.1 _ (by omega)
end
end
section
section
variable {fl fd : Int32} {a1 a2 a3 a4 a5 a6 a7 a8 a9 a10 : Nat → Int32}
/-! ===== isRight ===== -/
theorem sm_ir59 {post : Int32 → St1 → Prop} {lost d : Nat} {wh : Nat → Nat} (hT : sm_T a3 a4) (h10 : sm_S a10 7 wh) (hl : lost ≤ 100) (hd : d ≤ 100)
    (H : post (nI (cond (sm_cd wh && Nat.ble (2 * d + lost) 4) 1 0)) (fl, nI d, a1, a2, a3, a4, a5, a6, a7, a8, a9, a10)) :
    ∃ fu, wX_isRight_59 post (nI lost) fl (nI d) a1 a2 a3 a4 a5 a6 a7 a8 a9 a10 fu 1 := by
  refine pk_loop (σ := Unit) (fun n i _ => wX_isRight_59 post (nI lost) fl (nI d) a1 a2 a3 a4 a5 a6 a7 a8 a9 a10 n (nI i)) (fun i _ => 1 ≤ i ∧ ∀ j, 1 ≤ j → j < i → sm_val wh (sm_pw j) = 0) 5 1 () (by omega) ⟨Nat.le_refl 1, fun j h1 h2 => absurd h1 (by omega)⟩ ?_ ?_
  · intro n _ h
    rw [sm_cd_iff.mpr h.2, Bool.true_and] at H
    have e : 2 * nI d + nI lost = nI (2 * d + lost) := by rw [sm_e2, nI_add]
    refine pk_le 5 5 (fun _ => pk_lt 4 (2 * d + lost) (fun z => ?_) (fun z => ?_) rfl e) (fun z => absurd z (by omega))
    · rw [sm_lf z] at H
      exact H
    · rw [sm_lt z] at H
      exact H
  · intro n i _ hi h hw
    have hv : sm_val wh (sm_pw i) < 8 := sm_val_lt (fun k hk => (h10 k hk).2)
    refine pk_le 5 i (fun z => absurd z (by omega)) (fun _ => ⟨pk_in i 14 (by omega), ?_⟩)
    refine sm_valueOf2 hT h10 (sm_pw_lt i) (by rw [nI_clamp (by omega)]; exact hT.1 i (by omega)) ?_
    refine pk_eq (sm_val wh (sm_pw i)) 0 (fun z => nm_r (nI_1 i) (hw () ⟨by omega, fun j h1 h2 => ?_⟩)) (fun z => ?_)
    · by_cases e : j = i
      · rw [e]; exact z
      · exact h.2 j h1 (by omega)
    · have hc : sm_cd wh = false := Bool.eq_false_iff.mpr (fun t => z (sm_cd_iff.mp t i h.1 hi))
      rw [hc, Bool.false_and] at H
      exact H
theorem sm_isRight {post : Int32 → St1 → Prop} {lost : Nat} {w wh : Nat → Nat} {m : Nat → Bool} (hT : sm_T a3 a4) (h1 : sm_S a1 7 w) (h2 : sm_M a2 m) (h10 : sm_S a10 7 wh) (hl : lost ≤ 100)
    (H : post (nI (cond (sm_cd wh && Nat.ble (2 * sm_df w m wh + lost) 4) 1 0)) (fl, nI (sm_df w m wh), a1, a2, a3, a4, a5, a6, a7, a8, a9, a10)) :
    wpX_isRight post (fl, fd, a1, a2, a3, a4, a5, a6, a7, a8, a9, a10) (nI lost) := by
  refine pk_loop (fun n i s => wX_isRight_7 post (nI lost) fl a1 a2 a3 a4 a5 a6 a7 a8 a9 a10 n (nI i) s) (fun i s => s = nI (sm_ct (fun p => !(m p) && !(Nat.beq (wh p) (w p))) i)) 7 0 0 (by omega) rfl ?_ ?_
  · intro n s h
    subst h
    have hd : sm_df w m wh ≤ 7 := sm_ct_le _ 7
    exact pk_le 7 7 (fun _ => sm_ir59 (d := sm_df w m wh) hT h10 hl (by omega) H) (fun z => absurd z (by omega))
  · intro n i s hi h hw
    subst h
    have e2 : a2 (nI i).toNatClampNeg = nI (cond (m i) 1 0) := by rw [nI_clamp (by omega)]; exact h2 i hi
    have hs := hw _ rfl
    rw [sm_ct_s] at hs
    refine pk_le 7 i (fun z => absurd z (by omega)) (fun _ => ⟨pk_in i 7 hi, ?_⟩)
    cases hm : m i with
    | true =>
      rw [hm] at e2 hs
      refine br_f (by rw [e2]; decide) (nm_r (?_ : _ = nI (sm_ct (fun p => !(m p) && !(Nat.beq (wh p) (w p))) i)) (nm_r (nI_1 i) hs))
      exact nI_add _ 0
    | false =>
      rw [hm] at e2 hs
      refine br_t e2 ⟨pk_in i 7 hi, pk_in i 7 hi, pk_eq (wh i) (w i) (fun z => ?_) (fun z => ?_) (sm_get h10 hi) (sm_get h1 hi) (by have := (h10 i hi).2; omega) (by have := (h1 i hi).2; omega)⟩
      · rw [sm_bt z] at hs
        exact nm_r (nI_add _ 0) (nm_r (nI_1 i) hs)
      · rw [sm_bf z] at hs
        exact nm_r (nI_add _ 1) (nm_r (nI_1 i) hs)
/-! ===== findWhole ===== -/
theorem sm_fw96 {post : Int32 → St1 → Prop} {lost : Nat} {w R N : Nat → Nat} {m : Nat → Bool} (hT : sm_T a3 a4) (h1 : sm_S a1 7 w) (h2 : sm_M a2 m) (h6 : sm_S a6 10 R) (h9 : sm_S a9 4 N) (h10 : sm_S a10 7 w) (hl : lost ≤ 100)
    (H : ∀ b10, sm_S b10 7 (fun p => Nat.xor (w p) (sm_co R N p)) →
      post (nI (cond (sm_cd (fun p => Nat.xor (w p) (sm_co R N p)) && Nat.ble (2 * sm_df w m (fun p => Nat.xor (w p) (sm_co R N p)) + lost) 4) 1 0)) (fl, nI (sm_df w m (fun p => Nat.xor (w p) (sm_co R N p))), a1, a2, a3, a4, a5, a6, a7, a8, a9, b10)) :
    ∃ fu, wX_findWhole_96 post (nI lost) fu 0 fl fd a1 a2 a3 a4 a5 a6 a7 a8 a9 a10 := by
  refine pk_loop (fun n i s => wX_findWhole_96 post (nI lost) n (nI i) fl fd a1 a2 a3 a4 a5 a6 a7 a8 a9 s) (fun i s => sm_S s 7 (sm_mx (fun p => Nat.xor (w p) (sm_co R N p)) w i)) 7 0 a10 (by omega) (sm_mx_0 h10) ?_ ?_
  · intro n s h
    refine pk_le 7 7 (fun _ => sm_isRight hT h1 h2 (sm_mx_N h) hl ⟨?_, H s (sm_mx_N h)⟩) (fun z => absurd z (by omega))
    cases (sm_cd (fun p => Nat.xor (w p) (sm_co R N p)) && Nat.ble (2 * sm_df w m (fun p => Nat.xor (w p) (sm_co R N p)) + lost) 4) with
    | true => rfl
    | false => rfl
  · intro n i s hi h hw
    refine pk_le 7 i (fun z => absurd z (by omega)) (fun _ => ?_)
    have hi' := h i hi
    rw [sm_mx_i] at hi'
    refine sm_correct hT h6 h9 hi hi'.1 hi'.2 (fun b10 q1 q2 => nm_r (nI_1 i) (hw b10 (fun j hj => ?_)))
    by_cases e : j = i
    · rw [e, q1]
      unfold sm_mx
      rw [if_pos (by omega)]
      exact ⟨rfl, sm_xlt hi'.2 (sm_co_lt _ _ _)⟩
    · rw [q2 j e, show sm_mx (fun p => Nat.xor (w p) (sm_co R N p)) w (i + 1) j = sm_mx (fun p => Nat.xor (w p) (sm_co R N p)) w i j from ?_]
      · exact h j hj
      · unfold sm_mx
        by_cases e2 : j < i
        · rw [if_pos e2, if_pos (by omega)]
        · rw [if_neg e2, if_neg (by omega)]
theorem sm_syn_eq {w : Nat → Nat} (h : ∀ k, k < 7 → w k < 8) {j : Nat} (h1 : 1 ≤ j) (h2 : j < 5) : sm_syn w j = sm_val w (sm_pw j) := by
  unfold sm_syn
  rw [sm_mm_eq (fun k _ => ?_) h2, sm_bf (by omega), cond_false]
  cases Nat.beq k 0 with
  | true => exact (by decide : 0 < 8)
  | false => exact sm_val_lt h
theorem sm_fw54 {post : Int32 → St1 → Prop} {w : Nat → Nat} {m : Nat → Bool} (hT : sm_T a3 a4) (h1 : sm_S a1 7 w) (h2 : sm_M a2 m) (h10 : sm_S a10 7 w) (hl : sm_ct m 7 ≤ 4)
    (H : ∀ f d b5 b6 b7 b8 b9 b10, (sm_ok w m = true → d = nI (sm_df w m (sm_wh w m)) ∧ sm_S b10 7 (sm_wh w m)) → post (nI (cond (sm_ok w m) 1 0)) (f, d, a1, a2, a3, a4, b5, b6, b7, b8, b9, b10)) :
    ∃ fu, wX_findWhole_54 post (nI (sm_ct m 7)) fl fd fu 1 a1 a2 a3 a4 a5 a6 a7 a8 a9 a10 := by
  have hv : ∀ k, k < 7 → w k < 8 := fun k hk => (h1 k hk).2
  refine pk_loop (fun n i s => wX_findWhole_54 post (nI (sm_ct m 7)) fl fd n (nI i) a1 a2 a3 a4 s a6 a7 a8 a9 a10) (fun i s => sm_Y s i (sm_syn w)) 5 1 a5 (by omega) (fun j _ _ => by omega) ?_ ?_
  · intro n s h
    refine pk_le 5 5 (fun _ => sm_buildRule hT h2 h hl (fun f b6 b7 b8 q6 => sm_findNumerator hT h q6 (fun b9 q9 => ?_))) (fun z => absurd z (by omega))
    refine sm_fw96 hT h1 h2 q6 q9 h10 (by omega) (fun b10 q10 => ?_)
    have e : sm_ok w m = (sm_cd (sm_wh w m) && Nat.ble (2 * sm_df w m (sm_wh w m) + sm_ct m 7) 4) := by
      unfold sm_ok
      rw [sm_lt hl, Bool.true_and]
    have t := H f (nI (sm_df w m (sm_wh w m))) s b6 b7 b8 b9 b10 (fun _ => ⟨rfl, q10⟩)
    rw [e] at t
    exact t
  · intro n i s hi h hw
    refine pk_le 5 i (fun z => absurd z (by omega)) (fun _ => ⟨pk_in i 14 (by omega), sm_valueOf hT h1 (sm_pw_lt i) (by rw [nI_clamp (by omega)]; exact hT.1 i (by omega)) ⟨pk_in i 5 hi, nm_e (nm_r (nI_1 i) (hw _ (fun j j1 j2 => ?_)))⟩⟩)
    rw [nI_clamp (by omega)]
    by_cases e : j = i
    · rw [e, pk_us, sm_syn_eq hv (by omega) hi]; exact ⟨rfl, sm_val_lt hv⟩
    · rw [pk_un e]; exact h j j1 (by omega)
theorem sm_findWhole {post : Int32 → St1 → Prop} {w : Nat → Nat} {m : Nat → Bool} (hT : sm_T a3 a4) (h1 : sm_S a1 7 w) (h2 : sm_M a2 m)
    (H : ∀ f d b5 b6 b7 b8 b9 b10, (sm_ok w m = true → d = nI (sm_df w m (sm_wh w m)) ∧ sm_S b10 7 (sm_wh w m)) → post (nI (cond (sm_ok w m) 1 0)) (f, d, a1, a2, a3, a4, b5, b6, b7, b8, b9, b10)) :
    wpX_findWhole post (fl, fd, a1, a2, a3, a4, a5, a6, a7, a8, a9, a10) := by
  refine pk_loop (σ := Int32 × (Nat → Int32)) (fun n i s => wX_findWhole_4 post fl fd n s.1 (nI i) a1 a2 a3 a4 a5 a6 a7 a8 a9 s.2) (fun i s => s.1 = nI (sm_ct m i) ∧ sm_S s.2 i w) 7 0 (0, a10) (by omega) ⟨rfl, fun j hj => absurd hj (by omega)⟩ ?_ ?_
  · intro n s h
    obtain ⟨s1, s2⟩ := s
    obtain ⟨k1, k2⟩ := h
    dsimp only at k1 k2
    subst k1
    have hc := sm_ct_le m 7
    refine pk_le 7 7 (fun _ => pk_le (sm_ct m 7) 4 (fun z => sm_fw54 hT h1 h2 k2 z H) (fun z => ?_)) (fun z => absurd z (by omega))
    have e : sm_ok w m = false := by
      unfold sm_ok
      rw [sm_lf z, Bool.false_and]
    have t := H fl fd a5 a6 a7 a8 a9 s2 (fun q => absurd (e.symm.trans q) (by decide))
    rw [e] at t
    exact t
  · intro n i s hi h hw
    obtain ⟨s1, s2⟩ := s
    obtain ⟨k1, k2⟩ := h
    dsimp only at k1 k2
    subst k1
    have e2 : a2 (nI i).toNatClampNeg = nI (cond (m i) 1 0) := by rw [nI_clamp (by omega)]; exact h2 i hi
    have k3 := sm_fill (k := (nI i).toNatClampNeg) k2 (nI_clamp (by omega)) (sm_get h1 hi) (h1 i hi).2
    refine pk_le 7 i (fun z => absurd z (by omega)) (fun _ => ⟨pk_in i 7 hi, pk_in i 7 hi, nm_e ⟨pk_in i 7 hi, ?_⟩⟩)
    cases hm : m i with
    | true =>
      rw [hm] at e2
      exact br_f (by rw [e2]; decide) (nm_e (nm_r (nI_1 i) (hw (_, _) ⟨by rw [sm_ct_s, hm]; exact nI_add _ 1, k3⟩)))
    | false =>
      rw [hm] at e2
      exact br_t e2 (nm_e (nm_r (nI_1 i) (hw (_, _) ⟨by rw [sm_ct_s, hm]; exact nI_add _ 0, k3⟩)))
end
end
section
noncomputable def sm_al (f : Nat → Bool) (n : Nat) : Bool := Nat.rec (motive := fun _ => Bool) true (fun k ih => cond (f k) ih false) n
theorem sm_al_s (f : Nat → Bool) (n : Nat) : sm_al f (n + 1) = cond (f n) (sm_al f n) false := rfl
theorem sm_al_get {f : Nat → Bool} {n : Nat} (h : sm_al f n = true) : ∀ k, k < n → f k = true := by
  induction n with
  | zero => intro k hk; omega
  | succ n ih =>
    rw [sm_al_s] at h
    cases e : f n with
    | false => rw [e, cond_false] at h; exact absurd h (by decide)
    | true =>
      rw [e, cond_true] at h
      intro k hk
      by_cases ek : k = n
      · rw [ek]; exact e
      · exact ih h k (by omega)
def sm_no (_ : Nat) : Bool := false
def sm_er (p q u v j : Nat) : Nat := cond (Nat.beq j p) u (cond (Nat.beq j q) v 0)
noncomputable def sm_k2 (p q u v : Nat) : Bool := sm_al (fun x => Nat.beq (sm_cw sm_no (sm_syn (sm_er p q u v)) x) (sm_er p q u v x)) 7
noncomputable def sm_k2p (p : Nat) : Bool := sm_al (fun q => sm_al (fun u => sm_al (fun v => sm_k2 p q u v) 8) 8) 7
theorem sm_k2_0 : sm_k2p 0 = true := by decide +kernel
theorem sm_k2_1 : sm_k2p 1 = true := by decide +kernel
theorem sm_k2_2 : sm_k2p 2 = true := by decide +kernel
theorem sm_k2_3 : sm_k2p 3 = true := by decide +kernel
theorem sm_k2_4 : sm_k2p 4 = true := by decide +kernel
theorem sm_k2_5 : sm_k2p 5 = true := by decide +kernel
theorem sm_k2_6 : sm_k2p 6 = true := by decide +kernel
theorem sm_k2_all {p q u v : Nat} (hp : p < 7) (hq : q < 7) (hu : u < 8) (hv : v < 8) : ∀ x, x < 7 → sm_cw sm_no (sm_syn (sm_er p q u v)) x = sm_er p q u v x := by
  have h : sm_k2p p = true := by
    rcases (by omega : p = 0 ∨ p = 1 ∨ p = 2 ∨ p = 3 ∨ p = 4 ∨ p = 5 ∨ p = 6) with e | e | e | e | e | e | e
    · rw [e]; exact sm_k2_0
    · rw [e]; exact sm_k2_1
    · rw [e]; exact sm_k2_2
    · rw [e]; exact sm_k2_3
    · rw [e]; exact sm_k2_4
    · rw [e]; exact sm_k2_5
    · rw [e]; exact sm_k2_6
  unfold sm_k2p at h
  have h2 := sm_al_get (sm_al_get (sm_al_get h q hq) u hu) v hv
  unfold sm_k2 at h2
  exact fun x hx => Nat.eq_of_beq_eq_true (sm_al_get h2 x hx)
/-! ===== runs of missing places ===== -/
def sm_pl (p by_ i : Nat) : Nat := Nat.mod (Nat.add p (Nat.mul i by_)) 7
noncomputable def sm_mk (p by_ l x : Nat) : Bool := Nat.rec (motive := fun _ => Bool) false (fun i ih => cond (Nat.beq x (sm_pl p by_ i)) true ih) l
def sm_sg (q v j : Nat) : Nat := cond (Nat.beq j q) v 0
noncomputable def sm_k3s (m : Nat → Bool) (R S e : Nat → Nat) (l : Nat) : Bool :=
  cond (sm_al (fun r => cond (Nat.ble r l) true (Nat.beq (sm_gap R S r) 0)) 5) (sm_al (fun x => Nat.beq (sm_co R (sm_nu R S) x) (e x)) 7) false
noncomputable def sm_k3m (m : Nat → Bool) (R : Nat → Nat) (l : Nat) : Bool :=
  cond (Nat.beq (sm_ct m 7) l) (sm_al (fun q => cond (m q) (sm_al (fun v => sm_k3s m R (sm_syn (sm_sg q v)) (sm_sg q v) l) 8) true) 7) false
noncomputable def sm_k3p (p : Nat) : Bool := sm_al (fun by_ => sm_al (fun l => cond (Nat.beq by_ 0) true (sm_k3m (sm_mk p by_ l) (sm_RL (sm_mk p by_ l) 7) l)) 5) 7
theorem sm_k3_0 : sm_k3p 0 = true := by decide +kernel
theorem sm_k3_1 : sm_k3p 1 = true := by decide +kernel
theorem sm_k3_2 : sm_k3p 2 = true := by decide +kernel
theorem sm_k3_3 : sm_k3p 3 = true := by decide +kernel
theorem sm_k3_4 : sm_k3p 4 = true := by decide +kernel
theorem sm_k3_5 : sm_k3p 5 = true := by decide +kernel
theorem sm_k3_6 : sm_k3p 6 = true := by decide +kernel
theorem sm_k3_all {p by_ l : Nat} (hp : p < 7) (hb : by_ < 7) (hb0 : by_ ≠ 0) (hl : l < 5) : sm_k3m (sm_mk p by_ l) (sm_RL (sm_mk p by_ l) 7) l = true := by
  have h : sm_k3p p = true := by
    rcases (by omega : p = 0 ∨ p = 1 ∨ p = 2 ∨ p = 3 ∨ p = 4 ∨ p = 5 ∨ p = 6) with e | e | e | e | e | e | e
    · rw [e]; exact sm_k3_0
    · rw [e]; exact sm_k3_1
    · rw [e]; exact sm_k3_2
    · rw [e]; exact sm_k3_3
    · rw [e]; exact sm_k3_4
    · rw [e]; exact sm_k3_5
    · rw [e]; exact sm_k3_6
  unfold sm_k3p at h
  have h2 := sm_al_get (sm_al_get h by_ hb) l hl
  rw [sm_bf hb0, cond_false] at h2
  exact h2
theorem sm_k3_ct {m : Nat → Bool} {R : Nat → Nat} {l : Nat} (h : sm_k3m m R l = true) : sm_ct m 7 = l := by
  unfold sm_k3m at h
  cases e : Nat.beq (sm_ct m 7) l with
  | false => rw [e, cond_false] at h; exact absurd h (by decide)
  | true => exact Nat.eq_of_beq_eq_true e
theorem sm_k3_q {m : Nat → Bool} {R : Nat → Nat} {l q v : Nat} (h : sm_k3m m R l = true) (hq : q < 7) (hm : m q = true) (hv : v < 8) :
    (∀ r, l < r → r < 5 → sm_gap R (sm_syn (sm_sg q v)) r = 0) ∧ ∀ x, x < 7 → sm_co R (sm_nu R (sm_syn (sm_sg q v))) x = sm_sg q v x := by
  unfold sm_k3m at h
  cases e : Nat.beq (sm_ct m 7) l with
  | false => rw [e, cond_false] at h; exact absurd h (by decide)
  | true =>
    rw [e, cond_true] at h
    have h2 := sm_al_get h q hq
    rw [hm, cond_true] at h2
    have h3 := sm_al_get h2 v hv
    unfold sm_k3s at h3
    cases e2 : sm_al (fun r => cond (Nat.ble r l) true (Nat.beq (sm_gap R (sm_syn (sm_sg q v)) r) 0)) 5 with
    | false => rw [e2, cond_false] at h3; exact absurd h3 (by decide)
    | true =>
      rw [e2, cond_true] at h3
      refine ⟨fun r h1 h5 => ?_, fun x hx => Nat.eq_of_beq_eq_true (sm_al_get h3 x hx)⟩
      have h6 := sm_al_get e2 r h5
      rw [sm_lf h1, cond_false] at h6
      exact Nat.eq_of_beq_eq_true h6
/-! ===== every message is sent as a code word ===== -/
theorem sm_k4 : sm_al (fun a => sm_al (fun b => sm_al (fun c => sm_cd (sm_enc a b c)) 8) 8) 8 = true := by decide +kernel
theorem sm_enc_cd {a b c : Nat} (ha : a < 8) (hb : b < 8) (hc : c < 8) : sm_cd (sm_enc a b c) = true := sm_al_get (sm_al_get (sm_al_get sm_k4 a ha) b hb) c hc
end
section
/-! ===== linear in the word ===== -/
def sm_W (w : Nat → Nat) : Prop := ∀ k, k < 7 → w k < 8
def sm_ad (F : (Nat → Nat) → Nat) : Prop :=
  (∀ f g, sm_W f → sm_W g → F (fun k => Nat.xor (f k) (g k)) = Nat.xor (F f) (F g)) ∧ (∀ f g, (∀ k, k < 7 → f k = g k) → F f = F g)
theorem sm_sg_q (q v : Nat) : sm_sg q v q = v := by unfold sm_sg; rw [sm_bt rfl, cond_true]
theorem sm_sg_n {q v j : Nat} (h : j ≠ q) : sm_sg q v j = 0 := by unfold sm_sg; rw [sm_bf h, cond_false]
theorem sm_sg_W {q v : Nat} (h : v < 8) : sm_W (sm_sg q v) := by
  intro k _
  by_cases e : k = q
  · rw [e, sm_sg_q]; exact h
  · rw [sm_sg_n e]; decide
theorem sm_ad_0 {F : (Nat → Nat) → Nat} (h : sm_ad F) {f : Nat → Nat} (hf : ∀ k, k < 7 → f k = 0) : F f = 0 := by
  have z : sm_W (fun _ => 0) := fun k _ => (by decide : 0 < 8)
  have h1 := h.1 (fun _ => 0) (fun _ => 0) z z
  have h2 : F (fun _ => 0) = 0 := by
    have h3 : F (fun _ => 0) = Nat.xor (F (fun _ => 0)) (F (fun _ => 0)) := h1
    rw [sm_xx] at h3
    exact h3
  rw [h.2 f (fun _ => 0) hf, h2]
theorem sm_ad_part {F : (Nat → Nat) → Nat} (h : sm_ad F) {e : Nat → Nat} (he : sm_W e) : ∀ n, n ≤ 7 → F (fun k => if k < n then e k else 0) = sm_xs (fun q => F (sm_sg q (e q))) n := by
  intro n
  induction n with
  | zero => intro _; exact sm_ad_0 h (fun k _ => if_neg (by omega))
  | succ n ih =>
    intro hn
    rw [sm_xs_s, ← ih (by omega), ← h.1 _ _ (fun k hk => ?_) (sm_sg_W (he n (by omega)))]
    · refine h.2 _ _ (fun k hk => ?_)
      by_cases e1 : k = n
      · rw [e1, if_pos (by omega), if_neg (by omega), sm_sg_q, sm_0x]
      · rw [sm_sg_n e1, sm_x0]
        by_cases e2 : k < n
        · rw [if_pos e2, if_pos (by omega)]
        · rw [if_neg e2, if_neg (by omega)]
    · skip
      by_cases e2 : k < n
      · rw [if_pos e2]; exact he k hk
      · rw [if_neg e2]; decide
theorem sm_ad_sum {F : (Nat → Nat) → Nat} (h : sm_ad F) {e : Nat → Nat} (he : sm_W e) : F e = sm_xs (fun q => F (sm_sg q (e q))) 7 := by
  rw [← sm_ad_part h he 7 (by omega)]
  exact h.2 _ _ (fun k hk => (if_pos hk).symm)
/-! ===== syndromes ===== -/
theorem sm_syn_cg {f g : Nat → Nat} (h : ∀ j, 1 ≤ j → j < 5 → sm_val f (sm_pw j) = sm_val g (sm_pw j)) : sm_syn f = sm_syn g := by
  unfold sm_syn
  refine sm_mm_cg (fun j hj => ?_)
  by_cases e : j = 0
  · rw [sm_bt e, cond_true, cond_true]
  · rw [h j (by omega) hj]
theorem sm_syn_lt (w : Nat → Nat) (j : Nat) : sm_syn w j < 8 := sm_mm_lt _ _ _
theorem sm_syn_add {f g : Nat → Nat} (hf : sm_W f) (hg : sm_W g) {j : Nat} (h1 : 1 ≤ j) (h2 : j < 5) : sm_syn (fun k => Nat.xor (f k) (g k)) j = Nat.xor (sm_syn f j) (sm_syn g j) := by
  rw [sm_syn_eq (fun k hk => sm_xlt (hf k hk) (hg k hk)) h1 h2, sm_syn_eq hf h1 h2, sm_syn_eq hg h1 h2]
  exact sm_val_add (sm_pw_lt j) hf hg
theorem sm_ad_gap {R : Nat → Nat} (hR : ∀ k, k < 10 → R k < 8) {r : Nat} (hr : r < 5) : sm_ad (fun e => sm_gap R (sm_syn e) r) := by
  constructor
  · intro f g hf hg
    show sm_gap R (sm_syn (fun k => Nat.xor (f k) (g k))) r = Nat.xor (sm_gap R (sm_syn f) r) (sm_gap R (sm_syn g) r)
    unfold sm_gap
    rw [← sm_xs_add]
    refine sm_xs_cg (fun k hk => ?_)
    rw [show Nat.sub r k = r - k from rfl, sm_syn_add hf hg (by omega) (by omega), sm_gm_addR _ (sm_syn_lt _ _) _ (sm_syn_lt _ _) _ (hR k (by omega))]
  · intro f g h
    show sm_gap R (sm_syn f) r = sm_gap R (sm_syn g) r
    rw [sm_syn_cg (fun j _ _ => sm_val_cg h)]
theorem sm_nu_eq {R S : Nat → Nat} {k : Nat} (hk : k < 4) : sm_nu R S k = sm_nF R S k (k + 1) := by
  unfold sm_nu
  exact sm_mm_eq (fun k _ => sm_nF_lt R S k (k + 1)) hk
theorem sm_nu_add {R f g : Nat → Nat} (hR : ∀ k, k < 10 → R k < 8) (hf : sm_W f) (hg : sm_W g) {k : Nat} (hk : k < 4) :
    sm_nu R (sm_syn (fun k => Nat.xor (f k) (g k))) k = Nat.xor (sm_nu R (sm_syn f) k) (sm_nu R (sm_syn g) k) := by
  rw [sm_nu_eq hk, sm_nu_eq hk, sm_nu_eq hk]
  unfold sm_nF
  rw [← sm_xs_add]
  refine sm_xs_cg (fun i hi => ?_)
  rw [show Nat.add (Nat.sub k i) 1 = k - i + 1 from rfl, sm_syn_add hf hg (by omega) (by omega), sm_gm_addR _ (sm_syn_lt _ _) _ (sm_syn_lt _ _) _ (hR i (by omega))]
theorem sm_nu_lt (R S : Nat → Nat) (k : Nat) : sm_nu R S k < 8 := sm_mm_lt _ _ _
theorem sm_ad_co {R : Nat → Nat} (hR : ∀ k, k < 10 → R k < 8) (x : Nat) : sm_ad (fun e => sm_co R (sm_nu R (sm_syn e)) x) := by
  constructor
  · intro f g hf hg
    show sm_co R (sm_nu R (sm_syn (fun k => Nat.xor (f k) (g k)))) x = Nat.xor (sm_co R (sm_nu R (sm_syn f)) x) (sm_co R (sm_nu R (sm_syn g)) x)
    by_cases h : sm_su R (sm_pw (7 - x)) 8 = 0
    · by_cases h2 : sm_od R (sm_pw (7 - x)) 8 = 0
      · rw [sm_co_2 h h2, sm_co_2 h h2, sm_co_2 h h2, sm_xx]
      · rw [sm_co_3 h h2, sm_co_3 h h2, sm_co_3 h h2, ← sm_gd_add _ (sm_up_lt _ _ _) _ (sm_up_lt _ _ _) _ (sm_gm_lt _ _)]
        refine congrArg (fun t => sm_gd t (sm_gm (sm_od R (sm_pw (7 - x)) 8) (sm_pw x))) ?_
        unfold sm_up
        rw [← sm_xs_add]
        refine sm_xs_cg (fun k hk => ?_)
        by_cases e : 4 ≤ k
        · rw [sm_lt e, cond_true, cond_true, cond_true, sm_xx]
        · rw [sm_lf (by omega), cond_false, cond_false, cond_false, sm_nu_add hR hf hg (by omega), sm_gm_addL _ (sm_nu_lt _ _ _) _ (sm_nu_lt _ _ _) _ (sm_xp_lt _ _)]
    · rw [sm_co_1 h, sm_co_1 h, sm_co_1 h, sm_xx]
  · intro f g h
    show sm_co R (sm_nu R (sm_syn f)) x = sm_co R (sm_nu R (sm_syn g)) x
    rw [sm_syn_cg (fun j _ _ => sm_val_cg h)]
/-! ===== the rule begins below 8 ===== -/
theorem sm_RL_lt (m : Nat → Bool) (n : Nat) : ∀ k, k < 10 → sm_RL m n k < 8 := by
  induction n with
  | zero =>
    intro k _
    show sm_r0 k < 8
    unfold sm_r0
    cases Nat.beq k 0 with
    | true => exact (by decide : 1 < 8)
    | false => exact (by decide : 0 < 8)
  | succ n ih =>
    intro k hk
    rw [sm_RL_s]
    cases m n with
    | true => rw [cond_true]; exact sm_mm_lt _ _ _
    | false => rw [cond_false]; exact ih k hk
/-! ===== errors at missing places alone ===== -/
theorem sm_bm_keep {S R : Nat → Nat} {lost : Nat} : ∀ i, (∀ r, lost < r → r < lost + 1 + i → sm_gap R S r = 0) → (sm_bm S lost R i).1 = R := by
  intro i
  induction i with
  | zero => intro _; rfl
  | succ i ih =>
    intro h
    have h1 := ih (fun r r1 r2 => h r r1 (by omega))
    rw [sm_bm_s]
    unfold sm_st
    rw [h1, sm_bt (h (lost + 1 + i) (by omega) (by omega)), cond_true]
theorem sm_ers {p by_ l : Nat} {e : Nat → Nat} (hp : p < 7) (hb : by_ < 7) (hb0 : by_ ≠ 0) (hl : l < 5) (he : sm_W e) (h0 : ∀ x, x < 7 → sm_mk p by_ l x = false → e x = 0) :
    ∀ x, x < 7 → sm_cw (sm_mk p by_ l) (sm_syn e) x = e x := by
  have K := sm_k3_all hp hb hb0 hl
  have hR := sm_RL_lt (sm_mk p by_ l) 7
  have hc := sm_k3_ct K
  have hg : ∀ r, l < r → r < 5 → sm_gap (sm_RL (sm_mk p by_ l) 7) (sm_syn e) r = 0 := by
    intro r h1 h2
    have ad := sm_ad_gap hR h2
    have t := sm_ad_sum ad he
    rw [t]
    refine sm_xs_z (fun q hq => ?_)
    cases hm : sm_mk p by_ l q with
    | true => exact (sm_k3_q K hq hm (he q hq)).1 r h1 h2
    | false => exact sm_ad_0 ad (fun k _ => by
        by_cases ek : k = q
        · rw [ek, sm_sg_q]; exact h0 q hq hm
        · exact sm_sg_n ek)
  have hr : sm_ru (sm_mk p by_ l) (sm_syn e) = sm_RL (sm_mk p by_ l) 7 := by
    unfold sm_ru
    rw [hc]
    exact sm_bm_keep _ (fun r h1 h2 => hg r h1 (by
      have h3 : r < l + 1 + (4 - l) := h2
      omega))
  intro x hx
  unfold sm_cw
  rw [hr]
  have ad := sm_ad_co hR x
  have t := sm_ad_sum ad he
  rw [t]
  have hq : ∀ q, q < 7 → sm_co (sm_RL (sm_mk p by_ l) 7) (sm_nu (sm_RL (sm_mk p by_ l) 7) (sm_syn (sm_sg q (e q)))) x = sm_sg q (e q) x := by
    intro q hq
    cases hm : sm_mk p by_ l q with
    | true => exact (sm_k3_q K hq hm (he q hq)).2 x hx
    | false =>
      have e0 := h0 q hq hm
      have z : ∀ k, k < 7 → sm_sg q (e q) k = 0 := fun k _ => by
        by_cases ek : k = q
        · rw [ek, sm_sg_q]; exact e0
        · exact sm_sg_n ek
      rw [z x hx]
      exact sm_ad_0 ad z
  rw [sm_xs_cg hq, sm_xs_1 (q := x) hx (fun k _ hk => sm_sg_n (fun z => hk z.symm)), sm_sg_q]
/-! ===== what findWhole answers ===== -/
theorem sm_syn_err {w c : Nat → Nat} (hw : sm_W w) (hc : sm_W c) (cc : sm_cd c = true) : sm_syn w = sm_syn (fun k => Nat.xor (w k) (c k)) := by
  refine sm_syn_cg (fun j h1 h2 => ?_)
  rw [sm_val_add (sm_pw_lt j) hw hc, sm_cd_iff.mp cc j h1 h2, sm_x0]
theorem sm_cd_cg {w c : Nat → Nat} (h : ∀ x, x < 7 → w x = c x) (cc : sm_cd c = true) : sm_cd w = true :=
  sm_cd_iff.mpr (fun j h1 h2 => (sm_val_cg h).trans (sm_cd_iff.mp cc j h1 h2))
/-- the corrections are the errors -/
theorem sm_right {w c : Nat → Nat} {m : Nat → Bool} (hw : sm_W w) (hc : sm_W c) (cc : sm_cd c = true) (h : ∀ x, x < 7 → sm_cw m (sm_syn (fun k => Nat.xor (w k) (c k))) x = Nat.xor (w x) (c x)) : ∀ x, x < 7 → sm_wh w m x = c x := by
  intro x hx
  unfold sm_wh
  rw [sm_syn_err hw hc cc, h x hx, sm_xk']
theorem sm_okI {w c : Nat → Nat} {m : Nat → Bool} (cc : sm_cd c = true) (hl : sm_ct m 7 ≤ 4) (h : ∀ x, x < 7 → sm_wh w m x = c x) (hd : 2 * sm_df w m (sm_wh w m) + sm_ct m 7 ≤ 4) : sm_ok w m = true := by
  unfold sm_ok
  rw [sm_lt hl, sm_cd_cg h cc, sm_lt hd]
  rfl
/-- errors at missing places alone -/
theorem sm_lawE {p by_ l : Nat} {w c : Nat → Nat} (hp : p < 7) (hb : by_ < 7) (hb0 : by_ ≠ 0) (hl : l < 5) (hw : sm_W w) (hc : sm_W c) (cc : sm_cd c = true) (h : ∀ x, x < 7 → sm_mk p by_ l x = false → w x = c x) :
    sm_ok w (sm_mk p by_ l) = true ∧ ∀ x, x < 7 → sm_wh w (sm_mk p by_ l) x = c x := by
  have hct := sm_k3_ct (sm_k3_all hp hb hb0 hl)
  have hwh := sm_right hw hc cc (sm_ers hp hb hb0 hl (fun k hk => sm_xlt (hw k hk) (hc k hk)) (fun x hx hm => by rw [h x hx hm, sm_xx]))
  refine ⟨sm_okI cc (by omega) hwh ?_, hwh⟩
  have hd : sm_df w (sm_mk p by_ l) (sm_wh w (sm_mk p by_ l)) = 0 := by
    unfold sm_df
    refine sm_ct_z (fun k hk => ?_)
    cases hm : sm_mk p by_ l k with
    | true => rfl
    | false => rw [hwh k hk, h k hk hm, sm_bt rfl]; rfl
  omega
theorem sm_no_ct : sm_ct sm_no 7 = 0 := sm_ct_z (fun _ _ => rfl)
/-- two places changed, none missing -/
theorem sm_lawD {p q : Nat} {w c : Nat → Nat} (hp : p < 7) (hq : q < 7) (hw : sm_W w) (hc : sm_W c) (cc : sm_cd c = true) (h : ∀ x, x < 7 → x ≠ p → x ≠ q → w x = c x) :
    sm_ok w sm_no = true ∧ ∀ x, x < 7 → sm_wh w sm_no x = c x := by
  have hx : ∀ x, x < 7 → Nat.xor (w x) (c x) = sm_er p q (Nat.xor (w p) (c p)) (Nat.xor (w q) (c q)) x := by
    intro x hx
    unfold sm_er
    by_cases e : x = p
    · rw [sm_bt e, cond_true, e]
    · rw [sm_bf e, cond_false]
      by_cases e2 : x = q
      · rw [sm_bt e2, cond_true, e2]
      · rw [sm_bf e2, cond_false, h x hx e e2, sm_xx]
  have hwh := sm_right (m := sm_no) hw hc cc (fun x hx' => by
    rw [sm_syn_cg (fun j _ _ => sm_val_cg hx), hx x hx']
    exact sm_k2_all hp hq (sm_xlt (hw p hp) (hc p hp)) (sm_xlt (hw q hq) (hc q hq)) x hx')
  have hn := sm_no_ct
  refine ⟨sm_okI cc (by omega) hwh ?_, hwh⟩
  have hd : sm_df w sm_no (sm_wh w sm_no) ≤ 2 := by
    unfold sm_df
    refine sm_ct_2 (p := p) (q := q) (fun k hk h1 h2 => ?_)
    rw [hwh k hk, h k hk h1 h2, sm_bt rfl]
    rfl
  omega
/-- a code word, none missing -/
theorem sm_lawZ {w : Nat → Nat} (hw : sm_W w) (cc : sm_cd w = true) : sm_ok w sm_no = true ∧ (∀ x, x < 7 → sm_wh w sm_no x = w x) ∧ sm_df w sm_no (sm_wh w sm_no) = 0 := by
  obtain ⟨h1, h2⟩ := sm_lawD (p := 0) (q := 0) (by omega) (by omega) hw hw cc (fun _ _ _ _ => rfl)
  refine ⟨h1, h2, ?_⟩
  unfold sm_df
  refine sm_ct_z (fun k hk => ?_)
  rw [h2 k hk, sm_bt rfl]
  rfl
/-- what 'ok' says -/
theorem sm_okE {w : Nat → Nat} {m : Nat → Bool} (h : sm_ok w m = true) : sm_cd (sm_wh w m) = true ∧ sm_df w m (sm_wh w m) ≤ 2 := by
  unfold sm_ok at h
  simp only [Bool.and_eq_true] at h
  have h3 := Nat.le_of_ble_eq_true h.2.2
  exact ⟨h.2.1, by omega⟩
theorem sm_wh_W {w : Nat → Nat} {m : Nat → Bool} (hw : sm_W w) : sm_W (sm_wh w m) := fun k hk => sm_xlt (hw k hk) (sm_co_lt _ _ _)
end
section
/-- a state holds the word w, the missing places m and the tables -/
def sm_K (a1 a2 a3 a4 : Nat → Int32) (w : Nat → Nat) (m : Nat → Bool) : Prop := sm_T a3 a4 ∧ sm_S a1 7 w ∧ sm_M a2 m
def sm_ud (w : Nat → Nat) (p v j : Nat) : Nat := cond (Nat.beq j p) v (w j)
def sm_um (m : Nat → Bool) (p j : Nat) : Bool := cond (Nat.beq j p) true (m j)
theorem sm_K_W {a1 a2 a3 a4 : Nat → Int32} {w : Nat → Nat} {m : Nat → Bool} (k : sm_K a1 a2 a3 a4 w m) : sm_W w := fun j hj => (k.2.1 j hj).2
theorem sm_isPl {post : Int32 → Prop} {u : St2} {x : Nat} (hx : x < 7) (h : post 1) : wpX_isPlace post u (nI x) :=
  br_f (nI_pos (by omega)) (br_f (nI_nlt (a := 6) (b := x) (by omega) (by omega)) h)
theorem sm_c1 {b : Bool} (h : b = true) : ¬ nI (cond b 1 0) = 0 := by rw [h]; decide
theorem sm_c0 {b : Bool} (h : b = false) : nI (cond b 1 0) = 0 := by rw [h]; rfl
theorem sm_zf {s : Nat → Int32} {i k : Nat} (h : ∀ j, j < i → s j = 0) (hk : k = i) : ∀ j, j < i + 1 → upd s k 0 j = 0 := by
  intro j hj
  rw [hk]
  by_cases e : j = i
  · rw [e, pk_us]
  · rw [pk_un e]; exact h j (by omega)
section
variable {fl fd : Int32} {a1 a2 a3 a4 a5 a6 a7 a8 a9 a10 : Nat → Int32}
theorem sm_mended {post : Int32 → St1 → Prop} {w : Nat → Nat} {m : Nat → Bool} {p : Nat} (k : sm_K a1 a2 a3 a4 w m) (hp : p < 7)
    (H : ∀ f d c1 c2 c3 c4 c5 c6 c7 c8 c9 c10, sm_K c1 c2 c3 c4 w m → post (cond (sm_ok w m) (nI (sm_wh w m p)) (-1)) (f, d, c1, c2, c3, c4, c5, c6, c7, c8, c9, c10)) :
    wpX_mended post (fl, fd, a1, a2, a3, a4, a5, a6, a7, a8, a9, a10) (nI p) := by
  unfold wpX_mended
  refine sm_isPl hp (br_f (by decide) (sm_findWhole k.1 k.2.1 k.2.2 (fun f d b5 b6 b7 b8 b9 b10 q => ?_)))
  have t := H f d a1 a2 a3 a4 b5 b6 b7 b8 b9 b10 k
  cases ho : sm_ok w m with
  | true =>
    rw [ho, cond_true] at t
    refine br_f (sm_c1 rfl) ⟨pk_in p 7 hp, ?_⟩
    rw [sm_get (q ho).2 hp]
    exact t
  | false =>
    rw [ho, cond_false] at t
    exact br_t (sm_c0 rfl) t
theorem sm_fits {post : Int32 → St1 → Prop} {w : Nat → Nat} {m : Nat → Bool} (k : sm_K a1 a2 a3 a4 w m)
    (H : ∀ f d c1 c2 c3 c4 c5 c6 c7 c8 c9 c10, sm_K c1 c2 c3 c4 w m → post (nI (cond (sm_ok w m) 1 0)) (f, d, c1, c2, c3, c4, c5, c6, c7, c8, c9, c10)) :
    wpX_fits post (fl, fd, a1, a2, a3, a4, a5, a6, a7, a8, a9, a10) := by
  unfold wpX_fits
  refine sm_findWhole k.1 k.2.1 k.2.2 (fun f d b5 b6 b7 b8 b9 b10 q => ?_)
  have t := H f d a1 a2 a3 a4 b5 b6 b7 b8 b9 b10 k
  cases ho : sm_ok w m with
  | true =>
    rw [ho] at t
    exact br_f (sm_c1 rfl) t
  | false =>
    rw [ho] at t
    exact br_t (sm_c0 rfl) t
theorem sm_wrong {post : Int32 → St1 → Prop} {w : Nat → Nat} {m : Nat → Bool} (k : sm_K a1 a2 a3 a4 w m)
    (H : ∀ f d c1 c2 c3 c4 c5 c6 c7 c8 c9 c10, sm_K c1 c2 c3 c4 w m → post (cond (sm_ok w m) (nI (sm_df w m (sm_wh w m))) (-1)) (f, d, c1, c2, c3, c4, c5, c6, c7, c8, c9, c10)) :
    wpX_wrong post (fl, fd, a1, a2, a3, a4, a5, a6, a7, a8, a9, a10) := by
  unfold wpX_wrong
  refine sm_findWhole k.1 k.2.1 k.2.2 (fun f d b5 b6 b7 b8 b9 b10 q => ?_)
  have t := H f d a1 a2 a3 a4 b5 b6 b7 b8 b9 b10 k
  cases ho : sm_ok w m with
  | true =>
    rw [ho, cond_true, ← (q ho).1] at t
    exact br_f (sm_c1 rfl) t
  | false =>
    rw [ho, cond_false] at t
    exact br_t (sm_c0 rfl) t
theorem sm_mend {post : Int32 → St1 → Prop} {w : Nat → Nat} {m : Nat → Bool} (k : sm_K a1 a2 a3 a4 w m)
    (H0 : sm_ok w m = false → ∀ f d c1 c2 c3 c4 c5 c6 c7 c8 c9 c10, sm_K c1 c2 c3 c4 w m → post 0 (f, d, c1, c2, c3, c4, c5, c6, c7, c8, c9, c10))
    (H1 : sm_ok w m = true → ∀ f d c1 c2 c3 c4 c5 c6 c7 c8 c9 c10, sm_K c1 c2 c3 c4 (sm_wh w m) sm_no → post 1 (f, d, c1, c2, c3, c4, c5, c6, c7, c8, c9, c10)) :
    wpX_mend post (fl, fd, a1, a2, a3, a4, a5, a6, a7, a8, a9, a10) := by
  unfold wpX_mend
  refine sm_findWhole k.1 k.2.1 k.2.2 (fun f d b5 b6 b7 b8 b9 b10 q => ?_)
  cases ho : sm_ok w m with
  | false => exact br_t (sm_c0 rfl) (H0 ho f d a1 a2 a3 a4 b5 b6 b7 b8 b9 b10 k)
  | true =>
    refine br_f (sm_c1 rfl) ?_
    have h10 := (q ho).2
    refine pk_loop (σ := (Nat → Int32) × (Nat → Int32)) (fun n i s => wX_mend_11 post f d n (nI i) s.1 s.2 a3 a4 b5 b6 b7 b8 b9 b10) (fun i s => sm_S s.1 i (sm_wh w m) ∧ ∀ j, j < i → s.2 j = 0) 7 0 (a1, a2) (by omega) ⟨fun j hj => absurd hj (by omega), fun j hj => absurd hj (by omega)⟩ ?_ ?_
    · intro n s h
      exact pk_le 7 7 (fun _ => H1 ho f d s.1 s.2 a3 a4 b5 b6 b7 b8 b9 b10 ⟨k.1, h.1, fun j hj => h.2 j hj⟩) (fun z => absurd z (by omega))
    · intro n i s hi h hw
      refine pk_le 7 i (fun z => absurd z (by omega)) (fun _ => ⟨pk_in i 7 hi, pk_in i 7 hi, nm_e ⟨pk_in i 7 hi, nm_e (nm_r (nI_1 i) (hw (_, _) ⟨sm_fill h.1 (nI_clamp (by omega)) (sm_get h10 hi) (h10 i hi).2, sm_zf h.2 (nI_clamp (by omega))⟩))⟩⟩)
theorem sm_at_m {post : Int32 → Prop} {w : Nat → Nat} {m : Nat → Bool} {p : Nat} (k : sm_K a1 a2 a3 a4 w m) (hp : p < 7) (H : post (nI (w p))) :
    wpX_at post (fl, fd, a1, a2, a3, a4, a5, a6, a7, a8, a9, a10) (nI p) := by
  unfold wpX_at
  refine sm_isPl hp (br_f (by decide) ⟨pk_in p 7 hp, ?_⟩)
  rw [sm_get k.2.1 hp]
  exact H
theorem sm_change {post : Int32 → St1 → Prop} {w : Nat → Nat} {m : Nat → Bool} {p v : Nat} (k : sm_K a1 a2 a3 a4 w m) (hp : p < 7) (hv : v < 8)
    (H : ∀ r c1, sm_K c1 a2 a3 a4 (sm_ud w p v) m → post r (fl, fd, c1, a2, a3, a4, a5, a6, a7, a8, a9, a10)) :
    wpX_change post (fl, fd, a1, a2, a3, a4, a5, a6, a7, a8, a9, a10) (nI p) (nI v) := by
  unfold wpX_change
  refine sm_isPl hp (br_f (by decide) (sm_isSym hv (br_f (by decide) ⟨pk_in p 7 hp, nm_e ⟨pk_in p 7 hp, nm_e (H _ _ ⟨k.1, ?_, k.2.2⟩)⟩⟩)))
  rw [nI_clamp (by omega)]
  refine sm_put k.2.1 rfl hv ?_ (fun j _ hn => ?_)
  · unfold sm_ud; rw [sm_bt rfl, cond_true]
  · unfold sm_ud; rw [sm_bf hn, cond_false]
theorem sm_lose {post : Int32 → St1 → Prop} {w : Nat → Nat} {m : Nat → Bool} {p : Nat} (k : sm_K a1 a2 a3 a4 w m) (hp : p < 7) (hm : m p = false)
    (H : ∀ c2, sm_K a1 c2 a3 a4 w (sm_um m p) → post 0 (fl, fd, a1, c2, a3, a4, a5, a6, a7, a8, a9, a10)) :
    wpX_lose post (fl, fd, a1, a2, a3, a4, a5, a6, a7, a8, a9, a10) (nI p) 1 := by
  have e2 : a2 (nI p).toNatClampNeg = 0 := by rw [nI_clamp (by omega), k.2.2 p hp, hm]; rfl
  unfold wpX_lose
  refine sm_isPl hp (br_f (by decide) ⟨pk_in p 7 hp, br_t e2 ⟨pk_in p 7 hp, nm_e (H _ ⟨k.1, k.2.1, fun j hj => ?_⟩)⟩⟩)
  rw [nI_clamp (by omega)]
  unfold sm_um
  by_cases e : j = p
  · rw [e, pk_us, sm_bt rfl, cond_true]; rfl
  · rw [pk_un e, sm_bf e, cond_false]; exact k.2.2 j hj
theorem sm_value {post : Int32 → Prop} {w : Nat → Nat} {m : Nat → Bool} {x : Nat} (k : sm_K a1 a2 a3 a4 w m) (hx : x < 8) (H : post (nI (sm_val w x))) :
    wpX_value post (fl, fd, a1, a2, a3, a4, a5, a6, a7, a8, a9, a10) (nI x) := by
  unfold wpX_value
  exact sm_isSym hx (br_f (by decide) (sm_valueOf k.1 k.2.1 hx rfl H))
/-! ===== send ===== -/
theorem sm_da {post : St1 → Prop} {n p l : Nat} {r : Nat × Nat × Nat × Nat} (hT : sm_T a3 a4) (hp : p < 7) (hp4 : 4 ≤ p) (hl : l < 8) (h1 : a1 p = nI l) (hr : r.2.2.2 < 8)
    (H : wX_divideAway_13 post fl fd a1 a2 a3 a4 a5 a6 a7 a8 a9 a10 n (nI (sm_dv l r).1) (nI (sm_dv l r).2.1) (nI (sm_dv l r).2.2.1) (nI (sm_dv l r).2.2.2) (nI p + (-1))) :
    wX_divideAway_13 post fl fd a1 a2 a3 a4 a5 a6 a7 a8 a9 a10 (n + 1) (nI r.1) (nI r.2.1) (nI r.2.2.1) (nI r.2.2.2) (nI p) := by
  have hx : Nat.xor l r.2.2.2 < 8 := sm_xlt hl hr
  refine br_f (nI_nlt (b := 4) hp4 (by omega)) ⟨pk_in p 7 hp, nm_r (by rw [nI_clamp (by omega), h1, sm_nx]) ?_⟩
  refine sm_times hT rfl hx (y := 3) rfl (by omega) (nm_r (sm_nx _ _) (nm_r (sm_nx _ _) ?_))
  refine sm_times hT rfl hx (y := 2) rfl (by omega) (nm_r (sm_nx _ _) ?_)
  exact sm_times hT rfl hx (y := 3) rfl (by omega) (nm_e H)
theorem sm_dv_lt {l : Nat} {r : Nat × Nat × Nat × Nat} (h : r.1 < 8 ∧ r.2.1 < 8 ∧ r.2.2.1 < 8 ∧ r.2.2.2 < 8) (hl : l < 8) : (sm_dv l r).1 < 8 ∧ (sm_dv l r).2.1 < 8 ∧ (sm_dv l r).2.2.1 < 8 ∧ (sm_dv l r).2.2.2 < 8 :=
  ⟨sm_gm_lt _ _, sm_xlt h.1 (sm_gm_lt _ _), sm_xlt h.2.1 (sm_xlt hl h.2.2.2), sm_xlt h.2.2.1 (sm_gm_lt _ _)⟩
def sm_s0 (a b c j : Nat) : Nat := cond (Nat.beq j 4) a (cond (Nat.beq j 5) b (cond (Nat.beq j 6) c 0))
theorem sm_divideAway {post : St1 → Prop} {a b c : Nat} (hT : sm_T a3 a4) (ha : a < 8) (hb : b < 8) (hc : c < 8) (h1 : sm_S a1 7 (sm_s0 a b c))
    (H : ∀ c1, sm_S c1 7 (sm_enc a b c) → post (fl, fd, c1, a2, a3, a4, a5, a6, a7, a8, a9, a10)) :
    wpX_divideAway post (fl, fd, a1, a2, a3, a4, a5, a6, a7, a8, a9, a10) := by
  have z0 : (0 : Nat) < 8 ∧ (0 : Nat) < 8 ∧ (0 : Nat) < 8 ∧ (0 : Nat) < 8 := by decide
  have z1 := sm_dv_lt (r := (0, 0, 0, 0)) z0 hc
  have z2 := sm_dv_lt z1 hb
  have z3 := sm_dv_lt z2 ha
  refine ⟨4, sm_da (p := 6) (r := (0, 0, 0, 0)) hT (by omega) (by omega) hc (h1 6 (by omega)).1 (by decide) ?_⟩
  refine sm_da (p := 5) hT (by omega) (by omega) hb (h1 5 (by omega)).1 z1.2.2.2 ?_
  refine sm_da (p := 4) hT (by omega) (by omega) ha (h1 4 (by omega)).1 z2.2.2.2 ?_
  refine br_t (by decide) (nm_e (nm_e (nm_e (nm_e (H _ (fun j hj => ?_))))))
  rcases (by omega : j = 0 ∨ j = 1 ∨ j = 2 ∨ j = 3 ∨ j = 4 ∨ j = 5 ∨ j = 6) with e | e | e | e | e | e | e
  · subst e; rw [pk_un (by decide), pk_un (by decide), pk_un (by decide), pk_us]; exact ⟨rfl, z3.1⟩
  · subst e; rw [pk_un (by decide), pk_un (by decide), pk_us]; exact ⟨rfl, z3.2.1⟩
  · subst e; rw [pk_un (by decide), pk_us]; exact ⟨rfl, z3.2.2.1⟩
  · subst e; rw [pk_us]; exact ⟨rfl, z3.2.2.2⟩
  · subst e; rw [pk_un (by decide), pk_un (by decide), pk_un (by decide), pk_un (by decide)]; exact h1 4 (by omega)
  · subst e; rw [pk_un (by decide), pk_un (by decide), pk_un (by decide), pk_un (by decide)]; exact h1 5 (by omega)
  · subst e; rw [pk_un (by decide), pk_un (by decide), pk_un (by decide), pk_un (by decide)]; exact h1 6 (by omega)
theorem sm_send {post : Int32 → St1 → Prop} {a b c : Nat} (hT : sm_T a3 a4) (ha : a < 8) (hb : b < 8) (hc : c < 8)
    (H : ∀ c1 c2, sm_K c1 c2 a3 a4 (sm_enc a b c) sm_no → post 0 (fl, fd, c1, c2, a3, a4, a5, a6, a7, a8, a9, a10)) :
    wpX_send post (fl, fd, a1, a2, a3, a4, a5, a6, a7, a8, a9, a10) (nI a) (nI b) (nI c) := by
  unfold wpX_send
  refine sm_isSym ha (br_f (by decide) (sm_isSym hb (br_f (by decide) (sm_isSym hc (br_f (by decide) ?_)))))
  refine pk_loop (σ := (Nat → Int32) × (Nat → Int32)) (fun n i s => wX_send_26 post (nI a) (nI b) (nI c) fl fd n (nI i) s.1 s.2 a3 a4 a5 a6 a7 a8 a9 a10) (fun i s => sm_S s.1 i (sm_s0 a b c) ∧ ∀ j, j < i → s.2 j = 0) 7 0 (a1, a2) (by omega) ⟨fun j hj => absurd hj (by omega), fun j hj => absurd hj (by omega)⟩ ?_ ?_
  · intro n s h
    exact pk_le 7 7 (fun _ => sm_divideAway hT ha hb hc h.1 (fun c1 q => H c1 s.2 ⟨hT, q, fun j hj => h.2 j hj⟩)) (fun z => absurd z (by omega))
  · intro n i s hi h hw
    have key : ∀ v, v < 8 → sm_s0 a b c i = v → wX_send_71 post (wX_send_26 post (nI a) (nI b) (nI c) fl fd n) (nI a) (nI b) (nI c) (nI i) (nI v) (nI i) fl fd s.1 s.2 a3 a4 a5 a6 a7 a8 a9 a10 := by
      intro v hv e
      refine ⟨pk_in i 7 hi, nm_e ⟨pk_in i 7 hi, nm_e (nm_r (nI_1 i) (hw (_, _) ⟨sm_fill h.1 (nI_clamp (by omega)) (by rw [e]) (by omega), sm_zf h.2 (nI_clamp (by omega))⟩))⟩⟩
    refine pk_le 7 i (fun z => absurd z (by omega)) (fun _ => pk_eq i 4 (fun z => key a ha ?_) (fun z4 => pk_eq i 5 (fun z => key b hb ?_) (fun z5 => pk_eq i 6 (fun z => key c hc ?_) (fun z6 => key 0 (by omega) ?_))))
    · unfold sm_s0; rw [sm_bt z, cond_true]
    · unfold sm_s0; rw [sm_bf z4, cond_false, sm_bt z, cond_true]
    · unfold sm_s0; rw [sm_bf z4, cond_false, sm_bf z5, cond_false, sm_bt z, cond_true]
    · unfold sm_s0; rw [sm_bf z4, cond_false, sm_bf z5, cond_false, sm_bf z6, cond_false]
end
end
section
/-! ===== the tables are made ===== -/
theorem sm_pw_2 : ∀ k, k < 13 → sm_pw k < 4 → 2 * sm_pw k = sm_pw (k + 1) := by decide +kernel
theorem sm_pw_3 : ∀ k, k < 13 → 4 ≤ sm_pw k → Nat.xor (2 * sm_pw k - 8) 3 = sm_pw (k + 1) := by decide +kernel
theorem sm_pw_inj : ∀ k, k < 7 → ∀ j, j < 7 → sm_pw j = sm_pw k → j = k := by decide +kernel
theorem sm_pw_n0 : ∀ k, k < 14 → sm_pw k ≠ 0 := by decide +kernel
theorem sm_pw_ex : ∀ j, j < 8 → j ≠ 0 → sm_pw (sm_ex j) = j := by decide +kernel
def sm_II (k : Nat) (x : Int32) (b3 b4 : Nat → Int32) : Prop :=
  (k < 14 → x = nI (sm_pw k)) ∧ (∀ j, j < k → j < 14 → b3 j = nI (sm_pw j)) ∧ (∀ j, j < k → j < 7 → b4 (sm_pw j) = nI j) ∧ b4 0 = 0
theorem sm_in112 {post : St1 → Prop} {mc ms kc ks k : Nat} {J : Int32 → Int32 → (Nat → Int32) → (Nat → Int32) → (Nat → Int32) → (Nat → Int32) → (Nat → Int32) → (Nat → Int32) → (Nat → Int32) → (Nat → Int32) → (Nat → Int32) → (Nat → Int32) → Prop}
    {fl fd : Int32} {a1 a2 a3 a4 a5 a6 a7 a8 a9 a10 : Nat → Int32} (hk : k < 14)
    (H : ∀ x, (k + 1 < 14 → x = nI (sm_pw (k + 1))) → J x (nI (k + 1)) a1 a2 a3 a4 a5 a6 a7 a8 a9 a10) :
    wX_init_112 post mc ms J (nI (sm_pw k)) (nI k) kc ks fl fd a1 a2 a3 a4 a5 a6 a7 a8 a9 a10 := by
  have hp := sm_pw_lt k
  refine pk_lt (sm_pw k) 4 (fun z => nm_e (nm_r (nI_1 k) (H _ (fun h => ?_)))) (fun z => nm_e (nm_r (nI_1 k) (H _ (fun h => ?_))))
  · rw [sm_e2, sm_pw_2 k (by omega) z]
  · rw [sm_e2, show (8 : Int32) = nI 8 from rfl, show (3 : Int32) = nI 3 from rfl, pk_sub (by omega), sm_nx, sm_pw_3 k (by omega) z]
theorem sm_init {post : St1 → Prop} (H : ∀ f d c1 c2 c3 c4 c5 c6 c7 c8 c9 c10, sm_T c3 c4 → post (f, d, c1, c2, c3, c4, c5, c6, c7, c8, c9, c10)) : wpX_init post 10 82 (0, 0) := by
  refine ⟨by omega, by omega, by omega, by omega, by omega, by omega, by omega, by omega, by omega, by omega, by omega, by omega, by omega, by omega, by omega, by omega, by omega, by omega, by omega, by omega, ?_⟩
  refine pk_loop (σ := Int32 × (Nat → Int32) × (Nat → Int32)) (fun n i s => wX_init_86 post 10 82 10 82 0 0 n s.1 (nI i) (fun _ => 0) (fun _ => 0) s.2.1 s.2.2 (fun _ => 0) (fun _ => 0) (fun _ => 0) (fun _ => 0) (fun _ => 0) (fun _ => 0)) (fun i s => sm_II i s.1 s.2.1 s.2.2) 14 0 (1, (fun _ => 0), (fun _ => 0)) (by omega) ⟨fun _ => rfl, fun j hj => absurd hj (by omega), fun j hj => absurd hj (by omega), rfl⟩ ?_ ?_
  · intro n s h
    refine pk_le 14 14 (fun _ => H _ _ _ _ _ _ _ _ _ _ _ _ ⟨fun j hj => h.2.1 j hj hj, fun j hj => ?_⟩) (fun z => absurd z (by omega))
    by_cases e : j = 0
    · rw [e, h.2.2.2]; rfl
    · have t := h.2.2.1 (sm_ex j) (by have := sm_ex_lt j hj; omega) (sm_ex_lt j hj)
      rw [sm_pw_ex j hj e] at t
      exact t
  · intro n i s hi h hw
    obtain ⟨s1, s2, s3⟩ := s
    obtain ⟨k1, k2, k3, k4⟩ := h
    dsimp only at k1 k2 k3 k4
    have e1 := k1 hi
    subst e1
    have b3 : ∀ j, j < i + 1 → j < 14 → upd s2 (nI i).toNatClampNeg (nI (sm_pw i)) j = nI (sm_pw j) := by
      intro j hj h14
      rw [nI_clamp (by omega)]
      by_cases e : j = i
      · rw [e, pk_us]
      · rw [pk_un e]; exact k2 j (by omega) h14
    have hp := sm_pw_lt i
    refine pk_le 14 i (fun z => absurd z (by omega)) (fun _ => ⟨pk_in i 14 hi, nm_e (pk_le 7 i (fun z => ?_) (fun z => ⟨pk_in (sm_pw i) 8 hp, nm_e ?_⟩))⟩)
    · refine sm_in112 hi (fun x hx => hw (x, _, _) ⟨hx, b3, fun j hj h7 => k3 j (by omega) h7, k4⟩)
    · refine sm_in112 hi (fun x hx => hw (x, _, upd s3 (nI (sm_pw i)).toNatClampNeg (nI i)) ⟨hx, b3, fun j hj h7 => ?_, ?_⟩)
      · show upd s3 (nI (sm_pw i)).toNatClampNeg (nI i) (sm_pw j) = nI j
        rw [nI_clamp (by omega)]
        by_cases e : j = i
        · rw [e, pk_us]
        · rw [pk_un (fun t => e (sm_pw_inj i z j h7 t))]; exact k3 j (by omega) h7
      · show upd s3 (nI (sm_pw i)).toNatClampNeg (nI i) 0 = 0
        rw [nI_clamp (by omega), pk_un (fun t => sm_pw_n0 i hi t.symm)]
        exact k4
end
section
abbrev sm_JT : Type := Int32 → Int32 → Int32 → (Nat → Int32) → (Nat → Int32) → (Nat → Int32) → (Nat → Int32) → (Nat → Int32) → (Nat → Int32) → (Nat → Int32) → (Nat → Int32) → (Nat → Int32) → (Nat → Int32) → Prop
theorem sm_rem7 (x : Int32) : ∃ t, t < 7 ∧ (x &&& 255) - (x &&& 255) / 7 * 7 = nI t := by
  obtain ⟨j, hj, e⟩ := pk_andE x (m := 255) 8 (by decide)
  refine ⟨j % 7, Nat.mod_lt _ (by decide), ?_⟩
  rw [e]
  exact pk_rem (d := 7) (by omega) (by decide) (by decide)
theorem sm_rem3 (x : Int32) : ∃ t, t < 3 ∧ (x &&& 255) - (x &&& 255) / 3 * 3 = nI t := by
  obtain ⟨j, hj, e⟩ := pk_andE x (m := 255) 8 (by decide)
  refine ⟨j % 3, Nat.mod_lt _ (by decide), ?_⟩
  rw [e]
  exact pk_rem (d := 3) (by omega) (by decide) (by decide)
theorem sm_rem5 (x : Int32) : ∃ t, t < 5 ∧ (x &&& 255) - (x &&& 255) / 5 * 5 = nI t := by
  obtain ⟨j, hj, e⟩ := pk_andE x (m := 255) 8 (by decide)
  refine ⟨j % 5, Nat.mod_lt _ (by decide), ?_⟩
  rw [e]
  exact pk_rem (d := 5) (by omega) (by decide) (by decide)
theorem sm_rem6 (x : Int32) : ∃ t, t < 6 ∧ 1 + ((x &&& 255) - (x &&& 255) / 6 * 6) = nI (t + 1) := by
  obtain ⟨j, hj, e⟩ := pk_andE x (m := 255) 8 (by decide)
  refine ⟨j % 6, Nat.mod_lt _ (by decide), ?_⟩
  rw [e, show nI j - nI j / 6 * 6 = nI (j % 6) from pk_rem (d := 6) (by omega) (by decide) (by decide), Nat.add_comm (j % 6) 1]
  exact nI_add 1 _
theorem sm_and7 (x : Int32) : ∃ t, t < 8 ∧ x &&& 7 = nI t := pk_andE x (m := 7) 3 (by decide)
section
variable {fl fd : Int32} {a1 a2 a3 a4 a5 a6 a7 a8 a9 a10 : Nat → Int32}
theorem sm_mendedT {post : Int32 → St1 → Prop} {w : Nat → Nat} {m : Nat → Bool} {p v : Nat} (k : sm_K a1 a2 a3 a4 w m) (hp : p < 7) (ho : sm_ok w m = true) (e : sm_wh w m p = v)
    (H : ∀ f d c1 c2 c3 c4 c5 c6 c7 c8 c9 c10, sm_K c1 c2 c3 c4 w m → post (nI v) (f, d, c1, c2, c3, c4, c5, c6, c7, c8, c9, c10)) :
    wpX_mended post (fl, fd, a1, a2, a3, a4, a5, a6, a7, a8, a9, a10) (nI p) :=
  sm_mended k hp (fun f d c1 c2 c3 c4 c5 c6 c7 c8 c9 c10 q => by rw [ho, cond_true, e]; exact H f d c1 c2 c3 c4 c5 c6 c7 c8 c9 c10 q)
theorem sm_fitsT {post : Int32 → St1 → Prop} {w : Nat → Nat} {m : Nat → Bool} (k : sm_K a1 a2 a3 a4 w m) (ho : sm_ok w m = true)
    (H : ∀ f d c1 c2 c3 c4 c5 c6 c7 c8 c9 c10, sm_K c1 c2 c3 c4 w m → post 1 (f, d, c1, c2, c3, c4, c5, c6, c7, c8, c9, c10)) :
    wpX_fits post (fl, fd, a1, a2, a3, a4, a5, a6, a7, a8, a9, a10) :=
  sm_fits k (fun f d c1 c2 c3 c4 c5 c6 c7 c8 c9 c10 q => by rw [ho]; exact H f d c1 c2 c3 c4 c5 c6 c7 c8 c9 c10 q)
theorem sm_wrongT {post : Int32 → St1 → Prop} {w : Nat → Nat} {m : Nat → Bool} {v : Nat} (k : sm_K a1 a2 a3 a4 w m) (ho : sm_ok w m = true) (e : sm_df w m (sm_wh w m) = v)
    (H : ∀ f d c1 c2 c3 c4 c5 c6 c7 c8 c9 c10, sm_K c1 c2 c3 c4 w m → post (nI v) (f, d, c1, c2, c3, c4, c5, c6, c7, c8, c9, c10)) :
    wpX_wrong post (fl, fd, a1, a2, a3, a4, a5, a6, a7, a8, a9, a10) :=
  sm_wrong k (fun f d c1 c2 c3 c4 c5 c6 c7 c8 c9 c10 q => by rw [ho, cond_true, e]; exact H f d c1 c2 c3 c4 c5 c6 c7 c8 c9 c10 q)
theorem sm_changeE {post : Int32 → St1 → Prop} {w : Nat → Nat} {m : Nat → Bool} {P V : Int32} {p v : Nat} (k : sm_K a1 a2 a3 a4 w m) (hP : P = nI p) (hp : p < 7) (hV : V = nI v) (hv : v < 8)
    (H : ∀ r c1, sm_K c1 a2 a3 a4 (sm_ud w p v) m → post r (fl, fd, c1, a2, a3, a4, a5, a6, a7, a8, a9, a10)) :
    wpX_change post (fl, fd, a1, a2, a3, a4, a5, a6, a7, a8, a9, a10) P V := by
  subst hP hV
  exact sm_change k hp hv H
/-! ===== kept, whole ===== -/
theorem sm_kept {post : Int32 → St1 → Prop} {w : Nat → Nat} {m : Nat → Bool} {a b c : Nat} (k : sm_K a1 a2 a3 a4 w m) (ho : sm_ok w m = true) (e4 : sm_wh w m 4 = a) (e5 : sm_wh w m 5 = b) (e6 : sm_wh w m 6 = c)
    (H : ∀ f d c1 c2 c3 c4 c5 c6 c7 c8 c9 c10, sm_K c1 c2 c3 c4 w m → post 1 (f, d, c1, c2, c3, c4, c5, c6, c7, c8, c9, c10)) :
    wpL_kept post (fl, fd, a1, a2, a3, a4, a5, a6, a7, a8, a9, a10) (nI a) (nI b) (nI c) := by
  unfold wpL_kept
  refine sm_mendedT (p := 4) k (by omega) ho e4 (fun f d c1 c2 c3 c4 c5 c6 c7 c8 c9 c10 k => br_t rfl ?_)
  refine sm_mendedT (p := 5) k (by omega) ho e5 (fun f d c1 c2 c3 c4 c5 c6 c7 c8 c9 c10 k => br_t rfl ?_)
  refine sm_mendedT (p := 6) k (by omega) ho e6 (fun f d c1 c2 c3 c4 c5 c6 c7 c8 c9 c10 k => br_t rfl ?_)
  exact sm_fitsT k ho (fun f d c1 c2 c3 c4 c5 c6 c7 c8 c9 c10 k => br_t rfl (H f d c1 c2 c3 c4 c5 c6 c7 c8 c9 c10 k))
theorem sm_whole {post : Int32 → St1 → Prop} {w : Nat → Nat} {a b c : Nat} (k : sm_K a1 a2 a3 a4 w sm_no) (cc : sm_cd w = true) (e4 : w 4 = a) (e5 : w 5 = b) (e6 : w 6 = c)
    (H : ∀ f d c1 c2 c3 c4 c5 c6 c7 c8 c9 c10, sm_K c1 c2 c3 c4 w sm_no → post 1 (f, d, c1, c2, c3, c4, c5, c6, c7, c8, c9, c10)) :
    wpL_whole post (fl, fd, a1, a2, a3, a4, a5, a6, a7, a8, a9, a10) (nI a) (nI b) (nI c) := by
  obtain ⟨ho, hw, hd⟩ := sm_lawZ (sm_K_W k) cc
  have hz := sm_cd_iff.mp cc
  unfold wpL_whole
  refine sm_value (x := 2) k (by omega) (br_t (congrArg nI (hz 1 (by omega) (by omega))) ?_)
  refine sm_value (x := 4) k (by omega) (br_t (congrArg nI (hz 2 (by omega) (by omega))) ?_)
  refine sm_value (x := 3) k (by omega) (br_t (congrArg nI (hz 3 (by omega) (by omega))) ?_)
  refine sm_value (x := 6) k (by omega) (br_t (congrArg nI (hz 4 (by omega) (by omega))) ?_)
  refine sm_kept k ho ((hw 4 (by omega)).trans e4) ((hw 5 (by omega)).trans e5) ((hw 6 (by omega)).trans e6) (fun f d c1 c2 c3 c4 c5 c6 c7 c8 c9 c10 k => br_f (by decide) ?_)
  exact sm_wrongT k ho hd (fun f d c1 c2 c3 c4 c5 c6 c7 c8 c9 c10 k => br_t rfl (H f d c1 c2 c3 c4 c5 c6 c7 c8 c9 c10 k))
/-! ===== the law behind its changes ===== -/
theorem sm_l350 {L kc ks i : Nat} {xs : Nat → Int32} {J : sm_JT} {w : Nat → Nat} {m : Nat → Bool} (k : sm_K a1 a2 a3 a4 w m)
    (hJ : ∀ f d c1 c2 c3 c4 c5 c6 c7 c8 c9 c10, sm_T c3 c4 → J (nI (i + 4)) f d c1 c2 c3 c4 c5 c6 c7 c8 c9 c10) :
    wL_law_350 (fun r => r = 1) L xs J (nI i) (cond (sm_ok w m) (nI (sm_df w m (sm_wh w m))) (-1)) (nI (cond (sm_ok w m) 1 0)) kc ks fl fd a1 a2 a3 a4 a5 a6 a7 a8 a9 a10 := by
  have e4 : nI i + 4 = nI (i + 4) := nI_add i 4
  cases ho : sm_ok w m with
  | false =>
    simp only [cond_false]
    refine br_t (by decide) (br_t rfl (br_f (by decide) (br_t (by decide) ?_)))
    refine sm_mend k (fun _ f d c1 c2 c3 c4 c5 c6 c7 c8 c9 c10 k => br_t (by decide) (br_t rfl (br_t (by decide) (nm_r e4 (hJ f d c1 c2 c3 c4 c5 c6 c7 c8 c9 c10 k.1))))) (fun h => absurd (ho.symm.trans h) (by decide))
  | true =>
    obtain ⟨cc, hd⟩ := sm_okE ho
    have hW := sm_wh_W (m := m) (sm_K_W k)
    obtain ⟨zo, zw, zd⟩ := sm_lawZ hW cc
    have h0 : ¬ nI (sm_df w m (sm_wh w m)) < 0 := nI_pos (by omega)
    refine br_f h0 (br_t rfl (br_f (nI_nlt (a := 2) hd (by omega)) (br_t ?_ ?_)))
    · rcases (by omega : sm_df w m (sm_wh w m) = 0 ∨ sm_df w m (sm_wh w m) = 1 ∨ sm_df w m (sm_wh w m) = 2) with e | e | e
      · rw [e]; decide
      · rw [e]; decide
      · rw [e]; decide
    · refine sm_mend k (fun h => absurd (ho.symm.trans h) (by decide)) (fun _ f d c1 c2 c3 c4 c5 c6 c7 c8 c9 c10 k => br_f h0 (br_t rfl (br_f h0 ?_)))
      refine sm_wrongT k zo zd (fun f d c1 c2 c3 c4 c5 c6 c7 c8 c9 c10 k => br_t rfl ?_)
      refine sm_at_m (p := 4) k (by omega) ?_
      exact sm_mendedT (p := 4) k (by omega) zo (zw 4 (by omega)) (fun f d c1 c2 c3 c4 c5 c6 c7 c8 c9 c10 k => br_t rfl (nm_r e4 (hJ f d c1 c2 c3 c4 c5 c6 c7 c8 c9 c10 k.1)))
theorem sm_l282 {L kc ks i : Nat} {xs : Nat → Int32} {J : sm_JT} {X7 : Int32} {w : Nat → Nat} {m : Nat → Bool} (k : sm_K a1 a2 a3 a4 w m)
    (hJ : ∀ f d c1 c2 c3 c4 c5 c6 c7 c8 c9 c10, sm_T c3 c4 → J (nI (i + 4)) f d c1 c2 c3 c4 c5 c6 c7 c8 c9 c10) :
    ∃ fu, wL_law_282 (fun r => r = 1) L xs J (nI i) X7 kc ks fu 0 fl fd a1 a2 a3 a4 a5 a6 a7 a8 a9 a10 := by
  obtain ⟨t, ht, et⟩ := pk_andE X7 (m := 3) 2 (by decide)
  refine pk_loop (fun n j s => wL_law_282 (fun r => r = 1) L xs J (nI i) X7 kc ks n (nI j) fl fd s a2 a3 a4 a5 a6 a7 a8 a9 a10) (fun _ s => ∃ w, sm_K s a2 a3 a4 w m) t 0 a1 (by omega) ⟨w, k⟩ ?_ ?_
  · intro n s h
    obtain ⟨w, k⟩ := h
    refine pk_le t t (fun _ => ?_) (fun z => absurd z (by omega)) et rfl (by omega) (by omega)
    refine sm_wrong k (fun f d c1 c2 c3 c4 c5 c6 c7 c8 c9 c10 k => sm_fits k (fun f d c1 c2 c3 c4 c5 c6 c7 c8 c9 c10 k => ?_))
    have q := sm_l350 (fl := f) (fd := d) (a5 := c5) (a6 := c6) (a7 := c7) (a8 := c8) (a9 := c9) (a10 := c10) (L := L) (kc := kc) (ks := ks) (xs := xs) k hJ
    cases ho : sm_ok w m with
    | true =>
      rw [ho] at q
      exact br_t rfl q
    | false =>
      rw [ho] at q
      exact br_f (by decide) q
  · intro n j s hj h hw
    obtain ⟨w, k⟩ := h
    obtain ⟨p, hp, ep⟩ := sm_rem7 (X7 >>> (((4 * nI j) + 2) &&& 31))
    obtain ⟨v, hv, ev⟩ := sm_and7 (X7 >>> (((3 * nI j) + 12) &&& 31))
    refine pk_le t j (fun z => absurd z (by omega)) (fun _ => ⟨by decide, ?_⟩) et rfl (by omega) (by omega)
    exact sm_changeE k ep hp ev hv (fun r c1 k => nm_r (nI_1 j) (hw c1 ⟨_, k⟩))
theorem sm_l257 {L kc ks i a b c : Nat} {xs : Nat → Int32} {J : sm_JT} {w : Nat → Nat} {m : Nat → Bool} (k : sm_K a1 a2 a3 a4 w m) (hi : i + 4 ≤ L) (hL : L ≤ 260)
    (ho : sm_ok w m = true) (e4 : sm_wh w m 4 = a) (e5 : sm_wh w m 5 = b) (e6 : sm_wh w m 6 = c)
    (hJ : ∀ f d c1 c2 c3 c4 c5 c6 c7 c8 c9 c10, sm_T c3 c4 → J (nI (i + 4)) f d c1 c2 c3 c4 c5 c6 c7 c8 c9 c10) :
    wL_law_257 (fun r => r = 1) L xs J (nI i) (nI a) (nI b) (nI c) kc ks fl fd a1 a2 a3 a4 a5 a6 a7 a8 a9 a10 := by
  unfold wL_law_257
  refine sm_kept k ho e4 e5 e6 (fun f d c1 c2 c3 c4 c5 c6 c7 c8 c9 c10 k => br_f (by decide) ⟨pk_in (i + 3) L (by omega) (nI_add i 3), nm_e ?_⟩)
  exact sm_l282 k hJ
end
end
section
theorem sm_enc_4 (a b c : Nat) : sm_enc a b c 4 = a := rfl
theorem sm_enc_5 (a b c : Nat) : sm_enc a b c 5 = b := rfl
theorem sm_enc_6 (a b c : Nat) : sm_enc a b c 6 = c := rfl
theorem sm_ud_n {w : Nat → Nat} {p v j : Nat} (h : j ≠ p) : sm_ud w p v j = w j := by unfold sm_ud; rw [sm_bf h, cond_false]
theorem sm_pl_lt (p by_ i : Nat) : sm_pl p by_ i < 7 := Nat.mod_lt _ (by decide)
theorem sm_mk_s (p by_ l x : Nat) : sm_mk p by_ (l + 1) x = sm_um (sm_mk p by_ l) (sm_pl p by_ l) x := rfl
theorem sm_pl_s (p by_ i : Nat) : (sm_pl p by_ i + by_) % 7 = sm_pl p by_ (i + 1) := by
  show ((p + i * by_) % 7 + by_) % 7 = (p + (i + 1) * by_) % 7
  rw [Nat.mod_add_mod, Nat.add_mul, Nat.one_mul, Nat.add_assoc]
/-- a run meets no place twice -/
theorem sm_k5 : sm_al (fun p => sm_al (fun b => sm_al (fun l => cond (Nat.beq b 0) true (!(sm_mk p b l (sm_pl p b l)))) 4) 7) 7 = true := by decide +kernel
theorem sm_mk_new {p by_ l : Nat} (hp : p < 7) (hb : by_ < 7) (hb0 : by_ ≠ 0) (hl : l < 4) : sm_mk p by_ l (sm_pl p by_ l) = false := by
  have h := sm_al_get (sm_al_get (sm_al_get sm_k5 p hp) by_ hb) l hl
  rw [sm_bf hb0, cond_false] at h
  cases e : sm_mk p by_ l (sm_pl p by_ l) with
  | false => rfl
  | true => rw [e] at h; exact absurd h (by decide)
section
variable {fl fd : Int32} {a1 a2 a3 a4 a5 a6 a7 a8 a9 a10 : Nat → Int32}
/-- at most two places changed -/
theorem sm_l104 {L kc ks i a b c t : Nat} {xs : Nat → Int32} {J : sm_JT} {w : Nat → Nat} (k : sm_K a1 a2 a3 a4 w sm_no) (cc : sm_cd w = true) (ht : t < 3) (hi : i + 4 ≤ L) (hL : L ≤ 260) (e4 : w 4 = a) (e5 : w 5 = b) (e6 : w 6 = c)
    (hJ : ∀ f d c1 c2 c3 c4 c5 c6 c7 c8 c9 c10, sm_T c3 c4 → J (nI (i + 4)) f d c1 c2 c3 c4 c5 c6 c7 c8 c9 c10) :
    ∃ fu, wL_law_104 (fun r => r = 1) L xs J (nI i) (nI a) (nI b) (nI c) (nI t) kc ks fu 0 fl fd a1 a2 a3 a4 a5 a6 a7 a8 a9 a10 := by
  have hW := sm_K_W k
  refine pk_loop (fun n j s => wL_law_104 (fun r => r = 1) L xs J (nI i) (nI a) (nI b) (nI c) (nI t) kc ks n (nI j) fl fd s a2 a3 a4 a5 a6 a7 a8 a9 a10)
    (fun j s => ∃ w' P, sm_K s a2 a3 a4 w' sm_no ∧ (∀ q, P q < 7) ∧ ∀ x, x < 7 → (∀ q, q < j → x ≠ P q) → w' x = w x) t 0 a1 (by omega) ⟨w, fun _ => 0, k, fun _ => (by decide : 0 < 7), fun _ _ _ => rfl⟩ ?_ ?_
  · intro n s h
    obtain ⟨w', P, k', hP, h⟩ := h
    obtain ⟨ho, hw⟩ := sm_lawD (p := P 0) (q := P 1) (hP 0) (hP 1) (sm_K_W k') hW cc (fun x hx h0 h1 => h x hx (fun q hq => by
      rcases (by omega : q = 0 ∨ q = 1) with e | e
      · rw [e]; exact h0
      · rw [e]; exact h1))
    exact pk_le t t (fun _ => sm_l257 k' hi hL ho ((hw 4 (by omega)).trans e4) ((hw 5 (by omega)).trans e5) ((hw 6 (by omega)).trans e6) hJ) (fun z => absurd z (by omega))
  · intro n j s hj h hw
    obtain ⟨w', P, k', hP, h⟩ := h
    have e : nI i + 1 + nI j = nI (i + 1 + j) := by rw [nI_1, nI_add]
    obtain ⟨p, hp, ep⟩ := sm_rem7 (xs (nI i + 1 + nI j).toNatClampNeg)
    obtain ⟨v, hv, ev⟩ := sm_and7 (xs (nI i + 1 + nI j).toNatClampNeg >>> ((8 : Int32) &&& 31))
    refine pk_le t j (fun z => absurd z (by omega)) (fun _ => ⟨pk_in (i + 1 + j) L (by omega) e, by decide, pk_in (i + 1 + j) L (by omega) e, ?_⟩)
    refine sm_changeE k' ep hp ev hv (fun r c1 k2 => nm_r (nI_1 j) (hw c1 ⟨_, fun q => if q = j then p else P q, k2, fun q => ?_, fun x hx hq => ?_⟩))
    · dsimp only
      by_cases z : q = j
      · rw [if_pos z]; exact hp
      · rw [if_neg z]; exact hP q
    · have h1 := hq j (by omega)
      dsimp only at h1
      rw [if_pos rfl] at h1
      rw [sm_ud_n h1]
      refine h x hx (fun q hq' => ?_)
      have h2 := hq q (by omega)
      dsimp only at h2
      rw [if_neg (by omega)] at h2
      exact h2
/-- a run of at most four places lost -/
theorem sm_l202 {L kc ks i a b c t p by_ : Nat} {xs : Nat → Int32} {J : sm_JT} {w : Nat → Nat} (k : sm_K a1 a2 a3 a4 w sm_no) (cc : sm_cd w = true) (ht : t < 5) (hp : p < 7) (hb : by_ < 7) (hb0 : by_ ≠ 0) (hi : i + 4 ≤ L) (hL : L ≤ 260) (e4 : w 4 = a) (e5 : w 5 = b) (e6 : w 6 = c)
    (hJ : ∀ f d c1 c2 c3 c4 c5 c6 c7 c8 c9 c10, sm_T c3 c4 → J (nI (i + 4)) f d c1 c2 c3 c4 c5 c6 c7 c8 c9 c10) :
    ∃ fu, wL_law_202 (fun r => r = 1) L xs J (nI i) (nI a) (nI b) (nI c) (nI t) (nI by_) kc ks fu (nI p) 0 fl fd a1 a2 a3 a4 a5 a6 a7 a8 a9 a10 := by
  have hW := sm_K_W k
  have ep0 : sm_pl p by_ 0 = p := by
    show (p + 0 * by_) % 7 = p
    rw [Nat.zero_mul, Nat.add_zero]
    exact Nat.mod_eq_of_lt hp
  have key : ∃ fu, wL_law_202 (fun r => r = 1) L xs J (nI i) (nI a) (nI b) (nI c) (nI t) (nI by_) kc ks fu (nI (sm_pl p by_ 0)) (nI 0) fl fd a1 a2 a3 a4 a5 a6 a7 a8 a9 a10 := by
    refine pk_loop (σ := (Nat → Int32) × (Nat → Int32)) (fun n j s => wL_law_202 (fun r => r = 1) L xs J (nI i) (nI a) (nI b) (nI c) (nI t) (nI by_) kc ks n (nI (sm_pl p by_ j)) (nI j) fl fd s.1 s.2 a3 a4 a5 a6 a7 a8 a9 a10)
      (fun j s => ∃ w', sm_K s.1 s.2 a3 a4 w' (sm_mk p by_ j) ∧ ∀ x, x < 7 → sm_mk p by_ j x = false → w' x = w x) t 0 (a1, a2) (by omega) ⟨w, k, fun _ _ _ => rfl⟩ ?_ ?_
    · intro n s h
      obtain ⟨w', k', h⟩ := h
      obtain ⟨ho, hw⟩ := sm_lawE hp hb hb0 ht (sm_K_W k') hW cc h
      exact pk_le t t (fun _ => sm_l257 k' hi hL ho ((hw 4 (by omega)).trans e4) ((hw 5 (by omega)).trans e5) ((hw 6 (by omega)).trans e6) hJ) (fun z => absurd z (by omega))
    · intro n j s hj h hw
      obtain ⟨w', k', h⟩ := h
      obtain ⟨v, hv, ev⟩ := sm_and7 (xs (nI i + 2).toNatClampNeg >>> ((3 * nI j) &&& 31))
      have hpl := sm_pl_lt p by_ j
      refine pk_le t j (fun z => absurd z (by omega)) (fun _ => ?_)
      refine sm_lose k' hpl (sm_mk_new hp hb hb0 (by omega)) (fun c2 k2 => br_t rfl ⟨pk_in (i + 2) L (by omega) (nI_add i 2), ?_⟩)
      refine sm_changeE k2 rfl hpl ev hv (fun r c1 k3 => ⟨by decide, nm_r ?_ (nm_r (nI_1 j) (hw (c1, c2) ⟨_, k3, fun x hx hm => ?_⟩))⟩)
      · rw [nI_add, ← sm_pl_s]
        exact pk_rem (d := 7) (by omega) (by decide) (by decide)
      · rw [sm_mk_s] at hm
        unfold sm_um at hm
        by_cases e : x = sm_pl p by_ j
        · rw [sm_bt e, cond_true] at hm
          exact absurd hm (by decide)
        · rw [sm_bf e, cond_false] at hm
          rw [sm_ud_n e]
          exact h x hx hm
  rw [ep0] at key
  exact key
theorem sm_l10 {L kc ks : Nat} {xs : Nat → Int32} (hL : L ≤ 260) : ∀ (n i : Nat) (f d : Int32) (c1 c2 c3 c4 c5 c6 c7 c8 c9 c10 : Nat → Int32), i ≤ 203 → 204 ≤ i + 4 * n → sm_T c3 c4 →
    wL_law_10 (fun r => r = 1) L xs kc ks n (nI i) f d c1 c2 c3 c4 c5 c6 c7 c8 c9 c10 := by
  intro n
  induction n with
  | zero => intro i f d c1 c2 c3 c4 c5 c6 c7 c8 c9 c10 h1 h2; omega
  | succ n ih =>
    intro i f d c1 c2 c3 c4 c5 c6 c7 c8 c9 c10 h1 h2 hT
    refine pk_lt L (i + 4) (fun _ => rfl) (fun hi => pk_le 200 i (fun _ => rfl) (fun h3 => ⟨pk_in i L (by omega), nm_e (nm_e (nm_e (nm_e ?_)))⟩)) rfl (nI_add i 4)
    have hJ : ∀ f d c1 c2 c3 c4 c5 c6 c7 c8 c9 c10, sm_T c3 c4 → wL_law_10 (fun r => r = 1) L xs kc ks n (nI (i + 4)) f d c1 c2 c3 c4 c5 c6 c7 c8 c9 c10 := fun f d c1 c2 c3 c4 c5 c6 c7 c8 c9 c10 hT => ih (i + 4) f d c1 c2 c3 c4 c5 c6 c7 c8 c9 c10 (by omega) (by omega) hT
    obtain ⟨a, ha, ea⟩ := sm_and7 (xs (nI i).toNatClampNeg)
    obtain ⟨b, hb, eb⟩ := sm_and7 (xs (nI i).toNatClampNeg >>> ((3 : Int32) &&& 31))
    obtain ⟨c, hc, ec⟩ := sm_and7 (xs (nI i).toNatClampNeg >>> ((6 : Int32) &&& 31))
    rw [ea, eb, ec]
    refine sm_send hT ha hb hc (fun e1 e2 k => br_t rfl ?_)
    have cc := sm_enc_cd ha hb hc
    refine sm_whole k cc (sm_enc_4 a b c) (sm_enc_5 a b c) (sm_enc_6 a b c) (fun f d c1 c2 c3 c4 c5 c6 c7 c8 c9 c10 k => br_f (by decide) (br_c (fun _ => ⟨by decide, ?_⟩) (fun _ => ⟨by decide, ?_⟩)))
    · obtain ⟨t, ht, et⟩ := sm_rem3 (xs (nI i).toNatClampNeg >>> ((10 : Int32) &&& 31))
      exact nm_r et (sm_l104 k cc ht hi hL (sm_enc_4 a b c) (sm_enc_5 a b c) (sm_enc_6 a b c) hJ)
    · obtain ⟨t, ht, et⟩ := sm_rem5 (xs (nI i).toNatClampNeg >>> ((10 : Int32) &&& 31))
      obtain ⟨p, hp, ep⟩ := sm_rem7 (xs (nI i + 1).toNatClampNeg)
      obtain ⟨q, hq, eq⟩ := sm_rem6 (xs (nI i + 1).toNatClampNeg >>> ((8 : Int32) &&& 31))
      refine nm_r et ⟨pk_in (i + 1) L (by omega) (nI_1 i), by decide, nm_r ep ⟨pk_in (i + 1) L (by omega) (nI_1 i), by decide, nm_r eq ?_⟩⟩
      exact sm_l202 k cc ht hp (by omega) (by omega) hi hL (sm_enc_4 a b c) (sm_enc_5 a b c) (sm_enc_6 a b c) hJ
end
theorem i_vc (xs : Nat → Int32) (L : Nat) (hL : L ≤ 260) : wpL_law (fun r => r = 1) L xs :=
  ⟨10, 82, by omega, by omega, sm_init (fun f d c1 c2 c3 c4 c5 c6 c7 c8 c9 c10 hT => ⟨51, sm_l10 hL 51 0 f d c1 c2 c3 c4 c5 c6 c7 c8 c9 c10 (by omega) (by omega) hT⟩)⟩
end
