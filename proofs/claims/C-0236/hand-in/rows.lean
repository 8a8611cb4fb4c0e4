section
/-! rows pasted from the kit (kit/rows/PURE-ROWS) and small rows of this claim -/
theorem pk_us {f : Nat → Int32} {k : Nat} {x : Int32} : upd f k x k = x := if_pos rfl
theorem pk_un {f : Nat → Int32} {k j : Nat} {x : Int32} (h : j ≠ k) : upd f k x j = f j := if_neg h
theorem pk_sub {a b : Nat} (h : b ≤ a) : nI a - nI b = nI (a - b) := by
  obtain ⟨c, rfl⟩ : ∃ c, a = c + b := ⟨a - b, by omega⟩
  rw [← nI_add, Int32.add_sub_cancel, Nat.add_sub_cancel]
theorem pk_mul (a b : Nat) : nI a * nI b = nI (a * b) := (Int32.ofNat_mul a b).symm
theorem pk_div {a d : Nat} (ha : a < 2 ^ 31) (h0 : 0 < d) (hd : d < 2 ^ 31) : nI a / nI d = nI (a / d) := by
  apply Int32.toInt_inj.mp
  rw [lg_idiv_nonneg (by rw [nI_toInt ha]; omega) (by rw [nI_toInt hd]; omega), nI_toInt ha, nI_toInt hd, nI_toInt (Nat.lt_of_le_of_lt (Nat.div_le_self a d) ha)]
  first | rfl | exact (Int.natCast_ediv _ _).symm
theorem pk_ix (x : Int32) {n : Nat} (hn : n < 2 ^ 31) : x < 0 ∨ nI n ≤ x ∨ ∃ j : Nat, j < n ∧ x = nI j := by
  by_cases h : x < 0
  · exact Or.inl h
  · obtain ⟨j, hj, rfl⟩ := nI_of h
    by_cases h2 : j < n
    · exact Or.inr (Or.inr ⟨j, h2, rfl⟩)
    · exact Or.inr (Or.inl (nI_le (by omega) hj))
theorem pk_le {x y : Int32} {A B : Prop} (a b : Nat) (f : a ≤ b → A) (g : b < a → B) (hx : x = nI a := by rfl) (hy : y = nI b := by rfl) (ha : a < 2 ^ 31 := by omega) (hb : b < 2 ^ 31 := by omega) : (x ≤ y → A) ∧ (¬ x ≤ y → B) := by
  subst hx hy
  rw [nI_leI ha hb]
  exact ⟨f, fun z => g (by omega)⟩
theorem pk_lt {x y : Int32} {A B : Prop} (a b : Nat) (f : a < b → A) (g : b ≤ a → B) (hx : x = nI a := by rfl) (hy : y = nI b := by rfl) (ha : a < 2 ^ 31 := by omega) (hb : b < 2 ^ 31 := by omega) : (x < y → A) ∧ (¬ x < y → B) := by
  subst hx hy
  rw [nI_ltI ha hb]
  exact ⟨f, fun z => g (by omega)⟩
theorem pk_eq {x y : Int32} {A B : Prop} (a b : Nat) (f : a = b → A) (g : a ≠ b → B) (hx : x = nI a := by rfl) (hy : y = nI b := by rfl) (ha : a < 2 ^ 31 := by omega) (hb : b < 2 ^ 31 := by omega) : (x = y → A) ∧ (¬ x = y → B) := by
  subst hx hy
  rw [nI_eq ha hb]
  exact ⟨f, g⟩
theorem pk_in {x : Int32} (n N : Nat) (h : n < N) (hx : x = nI n := by rfl) (hN : N < 2 ^ 31 := by omega) : vp_in x N := by
  subst hx
  exact vp_in_nI h hN
theorem pk_cl {x : Int32} (n : Nat) (hx : x = nI n := by rfl) (h : n < 2 ^ 31 := by omega) : x.toNatClampNeg = n := by
  subst hx
  exact nI_clamp h
theorem pk_shr (a s : Int32) (k : Nat) (hs : (s.toBitVec.smod 32).toNat = k) : (a >>> s).toInt = a.toInt >>> k := by
  show (a.toBitVec.sshiftRight (s.toBitVec.smod 32).toNat).toInt = _
  rw [hs, BitVec.toInt_sshiftRight]
  rfl
theorem pk_shrN {n : Nat} (h : n < 2 ^ 31) (s : Int32) (k : Nat) (hs : (s.toBitVec.smod 32).toNat = k) : nI n >>> s = nI (n / 2 ^ k) := by
  apply Int32.toInt_inj.mp
  have h2 : n / 2 ^ k ≤ n := Nat.div_le_self _ _
  rw [pk_shr _ _ k hs, nI_toInt h, nI_toInt (by omega), Int.shiftRight_eq_div_pow]
  rfl
theorem ca_b1 : vp_nar .boolean 1 = nI 1 := by decide
theorem ca_b0 : vp_nar .boolean 0 = nI 0 := by decide
theorem ca_bn {k : Nat} (h : k ≤ 1) : vp_nar .boolean (nI k) = nI k := by
  have e : k = 0 ∨ k = 1 := by omega
  rcases e with rfl | rfl
  · exact ca_b0
  · exact ca_b1
theorem ca_3 (r k : Nat) : (3 : Int32) * nI r + nI k = nI (3 * r + k) := by
  show nI 3 * nI r + nI k = _
  rw [pk_mul, nI_add]
theorem ca_m1 {r : Nat} (h : r < 2 ^ 31) : ¬ nI r = -1 := by
  intro e
  have e2 := congrArg Int32.toInt e
  rw [nI_toInt h] at e2
  have h2 : (-1 : Int32).toInt = -1 := by decide
  omega
theorem ca_sh {t : Nat} (h : t < 2 ^ 31) : nI t >>> ((2 : Int32) &&& 31) = nI (t / 4) :=
  pk_shrN h _ 2 (by decide)
theorem ca_4 {t : Nat} (h : t < 2 ^ 31) : (4 : Int32) * (nI t >>> ((2 : Int32) &&& 31)) = nI (4 * (t / 4)) := by
  rw [ca_sh h]
  exact pk_mul 4 (t / 4)
theorem ca_d4 {t : Nat} (h : t < 2 ^ 31) : nI t / 4 = nI (t / 4) :=
  pk_div (d := 4) h (by decide) (by decide)
/-- x is no number below N -/
theorem ca_no {x : Int32} {N : Nat} (hN : N < 2 ^ 31) (h : ¬ ∃ c, c < N ∧ x = nI c) : x < 0 ∨ nI N ≤ x := by
  rcases pk_ix x hN with a | a | ⟨j, hj, e⟩
  · exact Or.inl a
  · exact Or.inr a
  · exact absurd ⟨j, hj, e⟩ h
/-- the first m cells of A are the numbers a -/
def cc_TA (m : Nat) (A : Nat → Int32) (a : Nat → Nat) : Prop := ∀ c, c < m → A c = nI (a c)
def cc_up (f : Nat → Nat) (a v : Nat) : Nat → Nat := fun j => if j = a then v else f j
theorem cc_up_e {f : Nat → Nat} {a v : Nat} : cc_up f a v a = v := if_pos rfl
theorem cc_up_n {f : Nat → Nat} {a v j : Nat} (h : j ≠ a) : cc_up f a v j = f j := if_neg h
theorem ca_up {m : Nat} {A : Nat → Int32} {a : Nat → Nat} {i v : Nat} (h : cc_TA m A a) : cc_TA m (upd A i (nI v)) (cc_up a i v) := by
  intro c hc
  by_cases e : c = i
  · subst e
    rw [pk_us, cc_up_e]
  · rw [pk_un e, cc_up_n e]
    exact h c hc
theorem ca_eq {m : Nat} {A : Nat → Int32} {a b : Nat → Nat} (h : cc_TA m A a) (e : ∀ c, c < m → a c = b c) : cc_TA m A b := by
  intro c hc
  rw [← e c hc]
  exact h c hc
end
section
/-! the plain law: the least closed values, level by level -/
/-- what premise j is worth -/
def cc_pv (V pt ng : Nat → Nat) (j : Nat) : Nat := if ng j = 0 then V (pt j) else 100 - V (pt j)
/-- the least of the first k premises of rule r -/
def cc_ls (V pt ng : Nat → Nat) (r : Nat) : Nat → Nat
  | 0 => 100
  | k + 1 => if cc_ls V pt ng r k ≤ cc_pv V pt ng (3 * r + k) then cc_ls V pt ng r k else cc_pv V pt ng (3 * r + k)
/-- what rule r is worth -/
def cc_wo (V st sz pt ng : Nat → Nat) (r : Nat) : Nat := cc_ls V pt ng r (sz r) * st r / 100
theorem cc_ls_s (V pt ng : Nat → Nat) (r k : Nat) : cc_ls V pt ng r (k + 1) = if cc_ls V pt ng r k ≤ cc_pv V pt ng (3 * r + k) then cc_ls V pt ng r k else cc_pv V pt ng (3 * r + k) := rfl
theorem cc_ls_100 (V pt ng : Nat → Nat) (r : Nat) : ∀ k, cc_ls V pt ng r k ≤ 100 := by
  intro k
  induction k with
  | zero => exact Nat.le_refl _
  | succ k ih =>
    rw [cc_ls_s]
    split
    · exact ih
    · omega
theorem cc_ls_pv (V pt ng : Nat → Nat) (r : Nat) : ∀ k j, j < k → cc_ls V pt ng r k ≤ cc_pv V pt ng (3 * r + j) := by
  intro k
  induction k with
  | zero => intro j hj; omega
  | succ k ih =>
    intro j hj
    rw [cc_ls_s]
    by_cases e : j = k
    · subst e
      split <;> omega
    · have := ih j (by omega)
      split <;> omega
theorem cc_ls_mono {V W pt ng : Nat → Nat} {r : Nat} : ∀ k, (∀ j, j < k → cc_pv V pt ng (3 * r + j) ≤ cc_pv W pt ng (3 * r + j)) → cc_ls V pt ng r k ≤ cc_ls W pt ng r k := by
  intro k
  induction k with
  | zero => intro _; exact Nat.le_refl _
  | succ k ih =>
    intro h
    have h1 := ih (fun j hj => h j (by omega))
    have h2 := h k (by omega)
    rw [cc_ls_s, cc_ls_s]
    split <;> split <;> omega
section
variable {V W st sz pt ng hd ob : Nat → Nat} {n sk r : Nat}
theorem cc_wo_le (hs : st r ≤ 100) : cc_wo V st sz pt ng r ≤ cc_ls V pt ng r (sz r) :=
  Nat.div_le_of_le_mul (Nat.le_trans (Nat.mul_le_mul_left _ hs) (Nat.le_of_eq (Nat.mul_comm _ _)))
theorem cc_wo_pv (hs : st r ≤ 100) {k : Nat} (hk : k < sz r) : cc_wo V st sz pt ng r ≤ cc_pv V pt ng (3 * r + k) :=
  Nat.le_trans (cc_wo_le hs) (cc_ls_pv V pt ng r (sz r) k hk)
theorem cc_wo_100 (hs : st r ≤ 100) : cc_wo V st sz pt ng r ≤ 100 :=
  Nat.le_trans (cc_wo_le hs) (cc_ls_100 V pt ng r (sz r))
theorem cc_wo_mono (h : ∀ k, k < sz r → cc_pv V pt ng (3 * r + k) ≤ cc_pv W pt ng (3 * r + k)) : cc_wo V st sz pt ng r ≤ cc_wo W st sz pt ng r :=
  Nat.div_le_div_right (Nat.mul_le_mul_right _ (cc_ls_mono _ h))
theorem cc_wo_congr (h : ∀ k, k < sz r → V (pt (3 * r + k)) = W (pt (3 * r + k))) : cc_wo V st sz pt ng r = cc_wo W st sz pt ng r := by
  refine Nat.le_antisymm (cc_wo_mono fun k hk => ?_) (cc_wo_mono fun k hk => ?_)
  · exact Nat.le_of_eq (by unfold cc_pv; rw [h k hk])
  · exact Nat.le_of_eq (by unfold cc_pv; rw [h k hk])
/-- the rules are in order: heads and premises are claims, a premise's level is not above its head's, a negated one's is below it -/
def cc_D (n : Nat) (hd st sz pt ng : Nat → Nat) : Prop :=
  n ≤ 20 ∧ ∀ r, r < n → hd r < 16 ∧ 1 ≤ st r ∧ st r ≤ 100 ∧ sz r ≤ 3 ∧ ∀ k, k < sz r → pt (3 * r + k) < 16 ∧ ng (3 * r + k) ≤ 1 ∧ pt (3 * r + k) / 4 + ng (3 * r + k) ≤ hd r / 4
theorem cc_key (D : cc_D n hd st sz pt ng) (hr : r < n)
    (h1 : ∀ k, k < sz r → pt (3 * r + k) / 4 < hd r / 4 → V (pt (3 * r + k)) = W (pt (3 * r + k)))
    (h2 : ∀ k, k < sz r → pt (3 * r + k) / 4 = hd r / 4 → V (pt (3 * r + k)) ≤ W (pt (3 * r + k))) :
    cc_wo V st sz pt ng r ≤ cc_wo W st sz pt ng r := by
  refine cc_wo_mono fun k hk => ?_
  obtain ⟨_, _, _, _, h5⟩ := D.2 r hr
  obtain ⟨a1, a2, a3⟩ := h5 k hk
  have b1 := h1 k hk
  have b2 := h2 k hk
  unfold cc_pv
  split
  · by_cases e : pt (3 * r + k) / 4 < hd r / 4
    · exact Nat.le_of_eq (b1 e)
    · exact b2 (by omega)
  · exact Nat.le_of_eq (by rw [b1 (by omega)])
/-- W is closed at level L -/
def cc_Clo (n sk : Nat) (hd st sz pt ng ob : Nat → Nat) (L : Nat) (W : Nat → Nat) : Prop :=
  (∀ c, c / 4 = L → ob c ≤ W c) ∧ (∀ r, r < n → r ≠ sk → hd r / 4 = L → cc_wo W st sz pt ng r ≤ W (hd r))
/-- V is below every W that is closed at level L and is V below it -/
def cc_Min (n sk : Nat) (hd st sz pt ng ob : Nat → Nat) (L : Nat) (V : Nat → Nat) : Prop :=
  ∀ W : Nat → Nat, (∀ c, c / 4 < L → W c = V c) → cc_Clo n sk hd st sz pt ng ob L W → ∀ c, c / 4 = L → V c ≤ W c
def cc_Sol (n sk : Nat) (hd st sz pt ng ob : Nat → Nat) (V : Nat → Nat) : Prop :=
  ∀ L, L < 4 → cc_Clo n sk hd st sz pt ng ob L V ∧ cc_Min n sk hd st sz pt ng ob L V
theorem cc_uniq' (S : cc_Sol n sk hd st sz pt ng ob V) (S' : cc_Sol n sk hd st sz pt ng ob W) : ∀ L, L ≤ 4 → ∀ c, c / 4 < L → V c = W c := by
  intro L
  induction L with
  | zero => intro _ c hc; omega
  | succ L ih =>
    intro hL c hc
    have ih' := ih (by omega)
    by_cases e : c / 4 < L
    · exact ih' c e
    · have e2 : c / 4 = L := by omega
      exact Nat.le_antisymm ((S L (by omega)).2 W (fun x hx => (ih' x hx).symm) (S' L (by omega)).1 c e2)
        ((S' L (by omega)).2 V (fun x hx => ih' x hx) (S L (by omega)).1 c e2)
theorem cc_uniq (S : cc_Sol n sk hd st sz pt ng ob V) (S' : cc_Sol n sk hd st sz pt ng ob W) {c : Nat} (hc : c < 16) : V c = W c :=
  cc_uniq' S S' 4 (Nat.le_refl _) c (by omega)
def cc_cap (V : Nat → Nat) (l : Nat) : Nat → Nat := fun x => if x / 4 < l then V x else 100
theorem cc_bd (D : cc_D n hd st sz pt ng) (hO : ∀ c, c < 16 → ob c ≤ 100) (S : cc_Sol n sk hd st sz pt ng ob V) {c : Nat} (hc : c < 16) : V c ≤ 100 := by
  have g1 : ∀ x, x / 4 = c / 4 → cc_cap V (c / 4) x = 100 := fun x hx => if_neg (by omega)
  have k1 : cc_Clo n sk hd st sz pt ng ob (c / 4) (cc_cap V (c / 4)) := by
    constructor
    · intro x hx
      rw [g1 x hx]
      exact hO x (by omega)
    · intro r hr hk hl
      rw [g1 _ hl]
      exact cc_wo_100 (D.2 r hr).2.2.1
  have k2 := (S (c / 4) (by omega)).2 (cc_cap V (c / 4)) (fun x hx => if_pos hx) k1 c rfl
  rw [g1 c rfl] at k2
  exact k2
/-- the certainties -/
noncomputable def cc_sol (n sk : Nat) (hd st sz pt ng ob : Nat → Nat) : Nat → Nat := Classical.epsilon (cc_Sol n sk hd st sz pt ng ob)
theorem cc_sol_S (S : cc_Sol n sk hd st sz pt ng ob V) : cc_Sol n sk hd st sz pt ng ob (cc_sol n sk hd st sz pt ng ob) :=
  Classical.epsilon_spec ⟨V, S⟩
theorem cc_sol_e (S : cc_Sol n sk hd st sz pt ng ob V) : ∀ c, c < 16 → V c = cc_sol n sk hd st sz pt ng ob c :=
  fun _ hc => cc_uniq S (cc_sol_S S) hc
end
end
section
/-! the plain law of the component: claims are settled from the greatest offer down -/
theorem cc_T4 {P : Nat → Prop} (h : ∀ L, L < 4 → P (4 * L) ∧ P (4 * L + 1) ∧ P (4 * L + 2) ∧ P (4 * L + 3)) : ∀ c, c < 16 → P c := by
  intro c hc
  have q := h (c / 4) (by omega)
  have e : c = 4 * (c / 4) ∨ c = 4 * (c / 4) + 1 ∨ c = 4 * (c / 4) + 2 ∨ c = 4 * (c / 4) + 3 := by omega
  rcases e with e | e | e | e
  · rw [e]; exact q.1
  · rw [e]; exact q.2.1
  · rw [e]; exact q.2.2.1
  · rw [e]; exact q.2.2.2
/-- after t turns: which claims are settled, counted by level -/
def cc_T (t : Nat) (T : Nat → Nat) : Prop :=
  (∀ c, c < 16 → T c ≤ 1) ∧ ∀ L, L < 4 → T (4 * L) + T (4 * L + 1) + T (4 * L + 2) + T (4 * L + 3) = min 4 (t - 4 * L)
theorem cc_T_0 : cc_T 0 (fun _ => 0) := by
  constructor
  · intro c _; exact Nat.zero_le _
  · intro L _
    show 0 + 0 + 0 + 0 = min 4 (0 - 4 * L)
    omega
theorem cc_T_top {t : Nat} {T : Nat → Nat} (h : cc_T t T) : ∀ c, c < 16 → t / 4 < c / 4 → T c = 0 := by
  refine cc_T4 fun L hL => ?_
  have q := h.2 L hL
  refine ⟨fun _ => ?_, fun _ => ?_, fun _ => ?_, fun _ => ?_⟩ <;> omega
theorem cc_T_end {T : Nat → Nat} (h : cc_T 16 T) : ∀ c, c < 16 → T c = 1 := by
  refine cc_T4 fun L hL => ?_
  have q := h.2 L hL
  have a := h.1 (4 * L) (by omega)
  have b := h.1 (4 * L + 1) (by omega)
  have c := h.1 (4 * L + 2) (by omega)
  have d := h.1 (4 * L + 3) (by omega)
  refine ⟨?_, ?_, ?_, ?_⟩ <;> omega
theorem cc_T_ex {t : Nat} {T : Nat → Nat} (h : cc_T t T) (ht : t < 16) (a : ∀ c, 4 * (t / 4) ≤ c → c < 4 * (t / 4) + 4 → T c ≠ 0) : False := by
  have q := h.2 (t / 4) (by omega)
  have a0 := a (4 * (t / 4)) (by omega) (by omega)
  have a1 := a (4 * (t / 4) + 1) (by omega) (by omega)
  have a2 := a (4 * (t / 4) + 2) (by omega) (by omega)
  have a3 := a (4 * (t / 4) + 3) (by omega) (by omega)
  omega
theorem cc_T_st {t c0 : Nat} {T : Nat → Nat} (h : cc_T t T) (ht : t < 16) (h0 : c0 / 4 = t / 4) (hT : T c0 = 0) : cc_T (t + 1) (cc_up T c0 1) := by
  constructor
  · intro c hc
    have := h.1 c hc
    unfold cc_up
    split <;> omega
  · intro L hL
    have q := h.2 L hL
    have t0 : 4 * L = c0 → T (4 * L) = 0 := fun e => by rw [e]; exact hT
    have t1 : 4 * L + 1 = c0 → T (4 * L + 1) = 0 := fun e => by rw [e]; exact hT
    have t2 : 4 * L + 2 = c0 → T (4 * L + 2) = 0 := fun e => by rw [e]; exact hT
    have t3 : 4 * L + 3 = c0 → T (4 * L + 3) = 0 := fun e => by rw [e]; exact hT
    show (if 4 * L = c0 then 1 else T (4 * L)) + (if 4 * L + 1 = c0 then 1 else T (4 * L + 1)) + (if 4 * L + 2 = c0 then 1 else T (4 * L + 2)) + (if 4 * L + 3 = c0 then 1 else T (4 * L + 3)) = min 4 (t + 1 - 4 * L)
    generalize T (4 * L) = w0 at *
    generalize T (4 * L + 1) = w1 at *
    generalize T (4 * L + 2) = w2 at *
    generalize T (4 * L + 3) = w3 at *
    split <;> split <;> split <;> split <;> omega
section
variable {T V F W st sz pt ng hd ob : Nat → Nat} {n sk r c0 t : Nat}
/-- T: settled, V: values, F: offers -/
def cc_Q (n sk : Nat) (hd st sz pt ng ob : Nat → Nat) (T V F : Nat → Nat) : Prop :=
  (∀ c, c < 16 → ob c ≤ F c ∧ F c ≤ 100 ∧ V c ≤ 100 ∧ T c ≤ 1 ∧ (T c = 1 → V c = F c)) ∧
  (∀ (L : Nat) (W : Nat → Nat), L < 4 → (∀ c, c / 4 < L → T c = 1 → W c = V c) → cc_Clo n sk hd st sz pt ng ob L W → ∀ c, c / 4 = L → F c ≤ W c) ∧
  (∀ c c', c < 16 → c' < 16 → c / 4 = c' / 4 → T c = 1 → T c' = 0 → F c' ≤ F c)
/-- the rules of K that have all premises settled have made their offer -/
def cc_K (n sk : Nat) (hd st sz pt ng : Nat → Nat) (T V F : Nat → Nat) (K : Nat → Prop) : Prop :=
  ∀ r, r < n → r ≠ sk → (∀ k, k < sz r → T (pt (3 * r + k)) = 1) → K r → cc_wo V st sz pt ng r ≤ F (hd r)
/-- the offers behind rule r's -/
def cc_of (sk : Nat) (hd st sz pt ng : Nat → Nat) (T V F : Nat → Nat) (r : Nat) : Nat → Nat :=
  fun c => if c = hd r ∧ r ≠ sk ∧ T c = 0 ∧ F c < cc_wo V st sz pt ng r then cc_wo V st sz pt ng r else F c
theorem cc_of_or (c : Nat) : cc_of sk hd st sz pt ng T V F r c = F c ∨ (c = hd r ∧ r ≠ sk ∧ T c = 0 ∧ F c < cc_wo V st sz pt ng r ∧ cc_of sk hd st sz pt ng T V F r c = cc_wo V st sz pt ng r) := by
  by_cases h : c = hd r ∧ r ≠ sk ∧ T c = 0 ∧ F c < cc_wo V st sz pt ng r
  · exact Or.inr ⟨h.1, h.2.1, h.2.2.1, h.2.2.2, if_pos h⟩
  · exact Or.inl (if_neg h)
theorem cc_of_ge (c : Nat) : F c ≤ cc_of sk hd st sz pt ng T V F r c := by
  rcases cc_of_or (sk := sk) (hd := hd) (st := st) (sz := sz) (pt := pt) (ng := ng) (T := T) (V := V) (F := F) (r := r) c with e | ⟨_, _, _, e1, e2⟩
  · exact Nat.le_of_eq e.symm
  · rw [e2]; exact Nat.le_of_lt e1
theorem cc_of_T {c : Nat} (h : T c = 1) : cc_of sk hd st sz pt ng T V F r c = F c := by
  refine if_neg fun z => ?_
  have := z.2.2.1
  omega
theorem cc_of_hd (hk : r ≠ sk) (h : T (hd r) = 0 ∨ cc_wo V st sz pt ng r ≤ F (hd r)) : cc_wo V st sz pt ng r ≤ cc_of sk hd st sz pt ng T V F r (hd r) := by
  by_cases z : F (hd r) < cc_wo V st sz pt ng r
  · have z2 : T (hd r) = 0 := by omega
    have e : cc_of sk hd st sz pt ng T V F r (hd r) = cc_wo V st sz pt ng r := if_pos ⟨rfl, hk, z2, z⟩
    exact Nat.le_of_eq e.symm
  · exact Nat.le_trans (Nat.le_of_not_lt z) (cc_of_ge _)
theorem cc_Q_0 (hO : ∀ c, c < 16 → ob c ≤ 100) : cc_Q n sk hd st sz pt ng ob (fun _ => 0) (fun _ => 0) ob := by
  refine ⟨fun c hc => ⟨Nat.le_refl _, hO c hc, Nat.zero_le _, Nat.zero_le _, fun z => ?_⟩, fun L W hL hW hC c hc => hC.1 c hc, fun c c' h1 h2 h3 h4 h5 => ?_⟩
  · exact absurd (show (0 : Nat) = 1 from z) (by decide)
  · exact absurd (show (0 : Nat) = 1 from h4) (by decide)
theorem cc_Q_of (D : cc_D n hd st sz pt ng) (hr : r < n) (hs : ∀ k, k < sz r → T (pt (3 * r + k)) = 1)
    (hle : ∀ c, c < 16 → c / 4 = hd r / 4 → T c = 1 → cc_wo V st sz pt ng r ≤ F c)
    (Q : cc_Q n sk hd st sz pt ng ob T V F) : cc_Q n sk hd st sz pt ng ob T V (cc_of sk hd st sz pt ng T V F r) := by
  obtain ⟨q1, q2, q3⟩ := Q
  obtain ⟨d1, d2, d3, d4, d5⟩ := D.2 r hr
  refine ⟨fun c hc => ?_, fun L W hL hW hC c hc => ?_, fun c c' h1 h2 h3 h4 h5 => ?_⟩
  · obtain ⟨a1, a2, a3, a4, a5⟩ := q1 c hc
    refine ⟨Nat.le_trans a1 (cc_of_ge c), ?_, a3, a4, fun ht => ?_⟩
    · rcases cc_of_or (sk := sk) (hd := hd) (st := st) (sz := sz) (pt := pt) (ng := ng) (T := T) (V := V) (F := F) (r := r) c with e | ⟨_, _, _, _, e⟩
      · rw [e]; exact a2
      · rw [e]; exact cc_wo_100 d3
    · rw [cc_of_T ht]; exact a5 ht
  · rcases cc_of_or (sk := sk) (hd := hd) (st := st) (sz := sz) (pt := pt) (ng := ng) (T := T) (V := V) (F := F) (r := r) c with e | ⟨e1, e2, e3, _, e4⟩
    · rw [e]; exact q2 L W hL hW hC c hc
    · have hl : hd r / 4 = L := by rw [← e1]; exact hc
      rw [e4, e1]
      refine Nat.le_trans (cc_key D hr (fun k hk hp => ?_) (fun k hk hp => ?_)) (hC.2 r hr e2 hl)
      · exact (hW _ (by omega) (hs k hk)).symm
      · have p1 := (d5 k hk).1
        rw [(q1 _ p1).2.2.2.2 (hs k hk)]
        exact q2 L W hL hW hC _ (by omega)
  · rw [cc_of_T h4]
    rcases cc_of_or (sk := sk) (hd := hd) (st := st) (sz := sz) (pt := pt) (ng := ng) (T := T) (V := V) (F := F) (r := r) c' with e | ⟨e1, _, _, _, e4⟩
    · rw [e]; exact q3 c c' h1 h2 h3 h4 h5
    · rw [e4]
      exact hle c h1 (by rw [h3, e1]) h4
theorem cc_Q_st (Q : cc_Q n sk hd st sz pt ng ob T V F) (h0 : c0 < 16) (hT : T c0 = 0)
    (hM : ∀ c, c < 16 → c / 4 = c0 / 4 → T c = 0 → F c ≤ F c0) :
    cc_Q n sk hd st sz pt ng ob (cc_up T c0 1) (cc_up V c0 (F c0)) F ∧ (∀ c, c < 16 → c / 4 = c0 / 4 → cc_up T c0 1 c = 1 → F c0 ≤ F c) := by
  obtain ⟨q1, q2, q3⟩ := Q
  refine ⟨⟨fun c hc => ?_, fun L W hL hW hC c hc => ?_, fun c c' h1 h2 h3 h4 h5 => ?_⟩, fun c hc hl ht => ?_⟩
  · obtain ⟨a1, a2, a3, a4, a5⟩ := q1 c hc
    by_cases e : c = c0
    · subst e
      rw [cc_up_e, cc_up_e]
      exact ⟨a1, a2, a2, Nat.le_refl _, fun _ => rfl⟩
    · rw [cc_up_n e, cc_up_n e]
      exact ⟨a1, a2, a3, a4, a5⟩
  · refine q2 L W hL (fun x hx ht => ?_) hC c hc
    have e : x ≠ c0 := fun z => by rw [z] at ht; omega
    have := hW x hx (by rw [cc_up_n e]; exact ht)
    rw [cc_up_n e] at this
    exact this
  · have e' : c' ≠ c0 := fun z => by rw [z, cc_up_e] at h5; omega
    rw [cc_up_n e'] at h5
    by_cases e : c = c0
    · subst e
      exact hM c' h2 h3.symm h5
    · rw [cc_up_n e] at h4
      exact q3 c c' h1 h2 h3 h4 h5
  · by_cases e : c = c0
    · subst e
      exact Nat.le_refl _
    · rw [cc_up_n e] at ht
      exact q3 c c0 hc h0 hl ht hT
/-- all claims settled: the values are the certainties -/
theorem cc_Q_end (D : cc_D n hd st sz pt ng) (hT : cc_T 16 T) (Q : cc_Q n sk hd st sz pt ng ob T V F) (K : cc_K n sk hd st sz pt ng T V F (fun _ => True)) : cc_Sol n sk hd st sz pt ng ob V := by
  have t1 := cc_T_end hT
  obtain ⟨q1, q2, q3⟩ := Q
  have hV : ∀ c, c < 16 → V c = F c := fun c hc => (q1 c hc).2.2.2.2 (t1 c hc)
  intro L hL
  refine ⟨⟨fun c hc => ?_, fun r hr hk hl => ?_⟩, fun W hW hC c hc => ?_⟩
  · rw [hV c (by omega)]
    exact (q1 c (by omega)).1
  · obtain ⟨d1, d2, d3, d4, d5⟩ := D.2 r hr
    rw [hV _ d1]
    exact K r hr hk (fun k hk => t1 _ (d5 k hk).1) trivial
  · rw [hV c (by omega)]
    exact q2 L W hL (fun x hx _ => hW x hx) hC c hc
/-- the number of unsettled ones among the first k premises -/
def cc_cn (T pt : Nat → Nat) (r : Nat) : Nat → Nat
  | 0 => 0
  | k + 1 => cc_cn T pt r k + (if T (pt (3 * r + k)) = 0 then 1 else 0)
/-- how often c0 is among the first k premises -/
def cc_dk (pt : Nat → Nat) (c0 r : Nat) : Nat → Nat
  | 0 => 0
  | k + 1 => cc_dk pt c0 r k + (if pt (3 * r + k) = c0 then 1 else 0)
theorem cc_cn_s (k : Nat) : cc_cn T pt r (k + 1) = cc_cn T pt r k + (if T (pt (3 * r + k)) = 0 then 1 else 0) := rfl
theorem cc_dk_s (k : Nat) : cc_dk pt c0 r (k + 1) = cc_dk pt c0 r k + (if pt (3 * r + k) = c0 then 1 else 0) := rfl
theorem cc_cn_le : ∀ k, cc_cn T pt r k ≤ k := by
  intro k
  induction k with
  | zero => exact Nat.le_refl _
  | succ k ih => rw [cc_cn_s]; split <;> omega
theorem cc_dk_mono : ∀ k m, cc_dk pt c0 r k ≤ cc_dk pt c0 r (k + m) := by
  intro k m
  induction m with
  | zero => exact Nat.le_refl _
  | succ m ih =>
    rw [← Nat.add_assoc, cc_dk_s]
    omega
theorem cc_cn_0 : ∀ k, cc_cn T pt r k = 0 → ∀ j, j < k → T (pt (3 * r + j)) ≠ 0 := by
  intro k
  induction k with
  | zero => intro _ j hj; omega
  | succ k ih =>
    intro h j hj
    rw [cc_cn_s] at h
    by_cases e : j = k
    · subst e
      intro z
      rw [if_pos z] at h
      omega
    · exact ih (by omega) j (by omega)
theorem cc_cn_z : ∀ k, (∀ j, j < k → T (pt (3 * r + j)) ≠ 0) → cc_cn T pt r k = 0 := by
  intro k
  induction k with
  | zero => intro _; rfl
  | succ k ih =>
    intro h
    rw [cc_cn_s, if_neg (h k (by omega)), ih (fun j hj => h j (by omega))]
theorem cc_cn_up (hT : T c0 = 0) : ∀ k, cc_cn T pt r k = cc_cn (cc_up T c0 1) pt r k + cc_dk pt c0 r k := by
  intro k
  induction k with
  | zero => rfl
  | succ k ih =>
    rw [cc_cn_s, cc_cn_s, cc_dk_s, ih]
    by_cases e : pt (3 * r + k) = c0
    · rw [if_pos e, e, cc_up_e, if_pos hT, if_neg (by decide)]
      omega
    · rw [if_neg e, cc_up_n e]
      omega
/-- rule r is complete with c0: its offer is not above what is settled already on its head's level -/
theorem cc_E_le (D : cc_D n hd st sz pt ng) (hr : r < n) (h0 : c0 < 16)
    (hv : V c0 = F c0) (ht : ∀ c, c < 16 → c0 / 4 < c / 4 → T c = 0)
    (hE : ∀ c, c < 16 → c / 4 = c0 / 4 → T c = 1 → F c0 ≤ F c) {k : Nat} (hk : k < sz r) (he : pt (3 * r + k) = c0) :
    ∀ c, c < 16 → c / 4 = hd r / 4 → T c = 1 → cc_wo V st sz pt ng r ≤ F c := by
  intro c hc hl h1
  obtain ⟨d1, d2, d3, d4, d5⟩ := D.2 r hr
  obtain ⟨a1, a2, a3⟩ := d5 k hk
  rw [he] at a3
  by_cases e : c0 / 4 < c / 4
  · have := ht c hc e
    omega
  · have g0 : ng (3 * r + k) = 0 := by omega
    have p := cc_wo_pv (V := V) (pt := pt) (ng := ng) d3 hk
    unfold cc_pv at p
    rw [if_pos g0, he, hv] at p
    exact Nat.le_trans p (hE c hc (by omega) h1)
/-- the inner loop's invariant: the rules below q have taken notice of c0 -/
def cc_J (n sk : Nat) (hd st sz pt ng ob : Nat → Nat) (T V : Nat → Nat) (c0 q : Nat) (F : Nat → Nat) : Prop :=
  cc_Q n sk hd st sz pt ng ob T V F ∧ (∀ c, c < 16 → c / 4 = c0 / 4 → T c = 1 → F c0 ≤ F c) ∧
  cc_K n sk hd st sz pt ng T V F (fun r => r < q ∨ ∀ k, k < sz r → pt (3 * r + k) ≠ c0)
theorem cc_J_0 (Q : cc_Q n sk hd st sz pt ng ob T V F) (K : cc_K n sk hd st sz pt ng T V F (fun _ => True)) (h0 : c0 < 16) (hT : T c0 = 0)
    (hM : ∀ c, c < 16 → c / 4 = c0 / 4 → T c = 0 → F c ≤ F c0) : cc_J n sk hd st sz pt ng ob (cc_up T c0 1) (cc_up V c0 (F c0)) c0 0 F := by
  obtain ⟨a, b⟩ := cc_Q_st Q h0 hT hM
  refine ⟨a, b, fun r hr hk hs hK => ?_⟩
  rcases hK with z | z
  · omega
  · have e : cc_wo (cc_up V c0 (F c0)) st sz pt ng r = cc_wo V st sz pt ng r := cc_wo_congr fun k hk => cc_up_n (z k hk)
    rw [e]
    refine K r hr hk (fun k hk => ?_) trivial
    have := hs k hk
    rw [cc_up_n (z k hk)] at this
    exact this
/-- rule q has made its offer -/
theorem cc_J_of {q : Nat} (D : cc_D n hd st sz pt ng) (hq : q < n) (h0 : c0 < 16) (ht : ∀ c, c < 16 → c0 / 4 < c / 4 → T c = 0) (h1 : T c0 = 1)
    (J : cc_J n sk hd st sz pt ng ob T V c0 q F) (hs : ∀ k, k < sz q → T (pt (3 * q + k)) = 1) {k : Nat} (hk : k < sz q) (he : pt (3 * q + k) = c0) :
    cc_J n sk hd st sz pt ng ob T V c0 (q + 1) (cc_of sk hd st sz pt ng T V F q) := by
  obtain ⟨Q, E, K⟩ := J
  have hle := cc_E_le (V := V) (F := F) D hq h0 ((Q.1 c0 h0).2.2.2.2 h1) ht E hk he
  refine ⟨cc_Q_of D hq hs hle Q, fun c hc hl hc1 => ?_, fun r hr hrk hrs hK => ?_⟩
  · rw [cc_of_T h1, cc_of_T hc1]
    exact E c hc hl hc1
  · by_cases e : r = q
    · subst e
      refine cc_of_hd hrk ?_
      have d1 := (D.2 r hr).1
      have t1 := (Q.1 _ d1).2.2.2.1
      by_cases z : T (hd r) = 0
      · exact Or.inl z
      · exact Or.inr (hle _ d1 rfl (by omega))
    · refine Nat.le_trans (K r hr hrk hrs ?_) (cc_of_ge _)
      rcases hK with z | z
      · exact Or.inl (by omega)
      · exact Or.inr z
/-- rule q makes no offer -/
theorem cc_J_no {q : Nat} (J : cc_J n sk hd st sz pt ng ob T V c0 q F) (hs : (∀ k, k < sz q → T (pt (3 * q + k)) = 1) → ∀ k, k < sz q → pt (3 * q + k) ≠ c0) :
    cc_J n sk hd st sz pt ng ob T V c0 (q + 1) F := by
  obtain ⟨Q, E, K⟩ := J
  refine ⟨Q, E, fun r hr hrk hrs hK => K r hr hrk hrs ?_⟩
  rcases hK with z | z
  · by_cases e : r = q
    · subst e
      exact Or.inr (hs hrs)
    · exact Or.inl (by omega)
  · exact Or.inr z
/-- the first loop over the rules: those without premises make their offers -/
theorem cc_B_of {q : Nat} (D : cc_D n hd st sz pt ng) (hq : q < n) (h0 : sz q = 0) (hT : ∀ c, c < 16 → T c = 0)
    (Q : cc_Q n sk hd st sz pt ng ob T V F) (K : cc_K n sk hd st sz pt ng T V F (fun r => r < q)) :
    cc_Q n sk hd st sz pt ng ob T V (cc_of sk hd st sz pt ng T V F q) ∧ cc_K n sk hd st sz pt ng T V (cc_of sk hd st sz pt ng T V F q) (fun r => r < q + 1) := by
  refine ⟨cc_Q_of D hq (fun k hk => ?_) (fun c hc _ h1 => ?_) Q, fun r hr hrk hrs hK => ?_⟩
  · omega
  · have := hT c hc
    omega
  · by_cases e : r = q
    · subst e
      exact cc_of_hd hrk (Or.inl (hT _ (D.2 r hr).1))
    · have hK' : r < q + 1 := hK
      exact Nat.le_trans (K r hr hrk hrs (by omega : r < q)) (cc_of_ge _)
theorem cc_B_no {q : Nat} (D : cc_D n hd st sz pt ng) (hq : q < n) (h0 : sz q ≠ 0) (hT : ∀ c, c < 16 → T c = 0)
    (K : cc_K n sk hd st sz pt ng T V F (fun r => r < q)) : cc_K n sk hd st sz pt ng T V F (fun r => r < q + 1) := by
  intro r hr hrk hrs hK
  by_cases e : r = q
  · subst e
    have a := hrs 0 (by omega)
    have b := hT _ ((D.2 r hr).2.2.2.2 0 (by omega)).1
    omega
  · have hK' : r < q + 1 := hK
    exact K r hr hrk hrs (by omega : r < q)
end
end
section
/-! the plain law of the reference: a level's values are raised until nothing must be raised -/
section
variable {V W V0 st sz pt ng hd ob : Nat → Nat} {n sk r L : Nat}
theorem cc_Clo_congr (D : cc_D n hd st sz pt ng) (hL : L < 4) (h : ∀ c, c / 4 ≤ L → V c = W c) (C : cc_Clo n sk hd st sz pt ng ob L V) : cc_Clo n sk hd st sz pt ng ob L W := by
  constructor
  · intro c hc
    rw [← h c (by omega)]
    exact C.1 c hc
  · intro r hr hk hl
    obtain ⟨d1, d2, d3, d4, d5⟩ := D.2 r hr
    have e : cc_wo W st sz pt ng r = cc_wo V st sz pt ng r := cc_wo_congr fun k hk => (h _ (by have := (d5 k hk).2.2; omega)).symm
    rw [e, ← h (hd r) (by omega)]
    exact C.2 r hr hk hl
theorem cc_Min_congr (h : ∀ c, c / 4 ≤ L → V c = W c) (M : cc_Min n sk hd st sz pt ng ob L V) : cc_Min n sk hd st sz pt ng ob L W := by
  intro U hU hC c hc
  rw [← h c (by omega)]
  exact M U (fun x hx => (hU x hx).trans (h x (by omega)).symm) hC c hc
/-- at the head of level L -/
def cc_Y0 (n sk : Nat) (hd st sz pt ng ob : Nat → Nat) (L : Nat) (V : Nat → Nat) : Prop :=
  (∀ l, l < L → cc_Clo n sk hd st sz pt ng ob l V ∧ cc_Min n sk hd st sz pt ng ob l V) ∧
  (∀ c, c < 16 → ob c ≤ V c ∧ V c ≤ 100 ∧ (L ≤ c / 4 → V c = ob c))
/-- within level L -/
def cc_YI (n sk : Nat) (hd st sz pt ng ob : Nat → Nat) (L : Nat) (V : Nat → Nat) : Prop :=
  (∀ l, l < L → cc_Clo n sk hd st sz pt ng ob l V ∧ cc_Min n sk hd st sz pt ng ob l V) ∧
  (∀ c, c < 16 → ob c ≤ V c ∧ V c ≤ 100 ∧ (L < c / 4 → V c = ob c)) ∧ cc_Min n sk hd st sz pt ng ob L V
/-- nothing must be raised by the rules below q -/
def cc_Cq (n sk : Nat) (hd st sz pt ng : Nat → Nat) (L : Nat) (V : Nat → Nat) (q : Nat) : Prop :=
  ∀ r, r < q → r ≠ sk → hd r / 4 = L → cc_wo V st sz pt ng r ≤ V (hd r)
def cc_su (L : Nat) (V : Nat → Nat) : Nat := V (4 * L) + V (4 * L + 1) + V (4 * L + 2) + V (4 * L + 3)
theorem cc_YI_0 (hL : L < 4) (Y : cc_Y0 n sk hd st sz pt ng ob L V) : cc_YI n sk hd st sz pt ng ob L V := by
  refine ⟨Y.1, fun c hc => ⟨(Y.2 c hc).1, (Y.2 c hc).2.1, fun h => (Y.2 c hc).2.2 (by omega)⟩, fun W hW hC c hc => ?_⟩
  rw [(Y.2 c (by omega)).2.2 (by omega)]
  exact hC.1 c hc
theorem cc_YI_end (hL : L < 4) (Y : cc_YI n sk hd st sz pt ng ob L V) (C : cc_Cq n sk hd st sz pt ng L V n) : cc_Y0 n sk hd st sz pt ng ob (L + 1) V := by
  obtain ⟨y1, y2, y3⟩ := Y
  refine ⟨fun l hl => ?_, fun c hc => ⟨(y2 c hc).1, (y2 c hc).2.1, fun h => (y2 c hc).2.2 (by omega)⟩⟩
  by_cases e : l = L
  · subst e
    exact ⟨⟨fun c hc => (y2 c (by omega)).1, fun r hr hk hl => C r hr hk hl⟩, y3⟩
  · exact y1 l (by omega)
theorem cc_Y0_end (Y : cc_Y0 n sk hd st sz pt ng ob 4 V) : cc_Sol n sk hd st sz pt ng ob V := fun L hL => Y.1 L hL
theorem cc_su_le (hL : L < 4) (Y : cc_YI n sk hd st sz pt ng ob L V) : cc_su L V ≤ 400 := by
  have a := (Y.2.1 (4 * L) (by omega)).2.1
  have b := (Y.2.1 (4 * L + 1) (by omega)).2.1
  have c := (Y.2.1 (4 * L + 2) (by omega)).2.1
  have d := (Y.2.1 (4 * L + 3) (by omega)).2.1
  unfold cc_su
  omega
theorem cc_YI_up (D : cc_D n hd st sz pt ng) (hL : L < 4) (Y : cc_YI n sk hd st sz pt ng ob L V) (hr : r < n) (hk : r ≠ sk) (hl : hd r / 4 = L)
    (hv : V (hd r) < cc_wo V st sz pt ng r) :
    cc_YI n sk hd st sz pt ng ob L (cc_up V (hd r) (cc_wo V st sz pt ng r)) ∧ cc_su L V < cc_su L (cc_up V (hd r) (cc_wo V st sz pt ng r)) := by
  obtain ⟨y1, y2, y3⟩ := Y
  obtain ⟨d1, d2, d3, d4, d5⟩ := D.2 r hr
  have hne : ∀ c, c / 4 ≠ L → cc_up V (hd r) (cc_wo V st sz pt ng r) c = V c := fun c hc => cc_up_n (fun z => hc (by rw [z]; exact hl))
  refine ⟨⟨fun l hl' => ?_, fun c hc => ?_, fun W hW hC c hc => ?_⟩, ?_⟩
  · have hh : ∀ c, c / 4 ≤ l → V c = cc_up V (hd r) (cc_wo V st sz pt ng r) c := fun c hc => (hne c (by omega)).symm
    exact ⟨cc_Clo_congr D (by omega) hh (y1 l hl').1, cc_Min_congr hh (y1 l hl').2⟩
  · obtain ⟨a1, a2, a3⟩ := y2 c hc
    by_cases e : c = hd r
    · subst e
      rw [cc_up_e]
      exact ⟨by omega, cc_wo_100 d3, fun z => by omega⟩
    · rw [cc_up_n e]
      exact ⟨a1, a2, a3⟩
  · have hW' : ∀ x, x / 4 < L → W x = V x := fun x hx => (hW x hx).trans (hne x (by omega))
    have m := y3 W hW' hC
    by_cases e : c = hd r
    · subst e
      rw [cc_up_e]
      exact Nat.le_trans (cc_key D hr (fun k _ hp => (hW' _ (by omega)).symm) (fun k _ hp => m _ (by omega))) (hC.2 r hr hk hl)
    · rw [cc_up_n e]
      exact m c hc
  · generalize cc_wo V st sz pt ng r = w at hv
    have t0 : 4 * L = hd r → V (4 * L) < w := fun e => by rw [e]; exact hv
    have t1 : 4 * L + 1 = hd r → V (4 * L + 1) < w := fun e => by rw [e]; exact hv
    have t2 : 4 * L + 2 = hd r → V (4 * L + 2) < w := fun e => by rw [e]; exact hv
    have t3 : 4 * L + 3 = hd r → V (4 * L + 3) < w := fun e => by rw [e]; exact hv
    show V (4 * L) + V (4 * L + 1) + V (4 * L + 2) + V (4 * L + 3) < (if 4 * L = hd r then w else V (4 * L)) + (if 4 * L + 1 = hd r then w else V (4 * L + 1)) + (if 4 * L + 2 = hd r then w else V (4 * L + 2)) + (if 4 * L + 3 = hd r then w else V (4 * L + 3))
    generalize V (4 * L) = w0 at *
    generalize V (4 * L + 1) = w1 at *
    generalize V (4 * L + 2) = w2 at *
    generalize V (4 * L + 3) = w3 at *
    generalize hd r = x at *
    split <;> split <;> split <;> split <;> omega
/-- the loop over the rules below q: b says whether something was raised -/
def cc_YR (n sk : Nat) (hd st sz pt ng ob : Nat → Nat) (L : Nat) (V0 V : Nat → Nat) (b q : Nat) : Prop :=
  cc_YI n sk hd st sz pt ng ob L V ∧ cc_su L V0 ≤ cc_su L V ∧ (b = 0 ∧ cc_Cq n sk hd st sz pt ng L V q ∨ b = 1 ∧ cc_su L V0 < cc_su L V)
theorem cc_YR_0 (Y : cc_YI n sk hd st sz pt ng ob L V) : cc_YR n sk hd st sz pt ng ob L V V 0 0 :=
  ⟨Y, Nat.le_refl _, Or.inl ⟨rfl, fun r hr => absurd hr (Nat.not_lt_zero r)⟩⟩
theorem cc_YR_b {b q : Nat} (Y : cc_YR n sk hd st sz pt ng ob L V0 V b q) : b = 0 ∨ b = 1 := by
  rcases Y.2.2 with z | z
  · exact Or.inl z.1
  · exact Or.inr z.1
theorem cc_YR_no {b q : Nat} (Y : cc_YR n sk hd st sz pt ng ob L V0 V b q) (h : q ≠ sk → hd q / 4 = L → cc_wo V st sz pt ng q ≤ V (hd q)) : cc_YR n sk hd st sz pt ng ob L V0 V b (q + 1) := by
  obtain ⟨y1, y2, y3⟩ := Y
  refine ⟨y1, y2, ?_⟩
  rcases y3 with ⟨z1, z2⟩ | z
  · refine Or.inl ⟨z1, fun r hr hk hl => ?_⟩
    by_cases e : r = q
    · subst e
      exact h hk hl
    · exact z2 r (by omega) hk hl
  · exact Or.inr z
theorem cc_YR_up {b q : Nat} (D : cc_D n hd st sz pt ng) (hL : L < 4) (Y : cc_YR n sk hd st sz pt ng ob L V0 V b q) (hr : q < n) (hk : q ≠ sk) (hl : hd q / 4 = L)
    (hv : V (hd q) < cc_wo V st sz pt ng q) : cc_YR n sk hd st sz pt ng ob L V0 (cc_up V (hd q) (cc_wo V st sz pt ng q)) 1 (q + 1) := by
  obtain ⟨y1, y2, y3⟩ := Y
  obtain ⟨a, b⟩ := cc_YI_up D hL y1 hr hk hl hv
  exact ⟨a, by omega, Or.inr ⟨rfl, by omega⟩⟩
end
end
section
/-! the component's walks: worth, makeOffer, best, count -/
/-- the rules' arrays hold these numbers -/
def cc_TR (n : Nat) (Ah As Az Ap Ag : Nat → Int32) (hd st sz pt ng : Nat → Nat) : Prop :=
  ∀ r, r < n → Ah r = nI (hd r) ∧ As r = nI (st r) ∧ Az r = nI (sz r) ∧ ∀ k, k < sz r → Ap (3 * r + k) = nI (pt (3 * r + k)) ∧ Ag (3 * r + k) = nI (ng (3 * r + k))
theorem ca_ext {c : Nat} {A : Nat → Int32} {a : Nat → Nat} (h : cc_TA c A a) : cc_TA (c + 1) (upd A c (nI (a c))) a := by
  intro j hj
  by_cases e : j = c
  · subst e
    exact pk_us
  · rw [pk_un e]
    exact h j (by omega)
theorem cc_up_up {f : Nat → Nat} {a v v' : Nat} (c : Nat) : cc_up (cc_up f a v) a v' c = cc_up f a v' c := by
  by_cases e : c = a
  · subst e
    rw [cc_up_e, cc_up_e]
  · rw [cc_up_n e, cc_up_n e, cc_up_n e]
theorem cc_up_id {f : Nat → Nat} {a v : Nat} (h : v = f a) (c : Nat) : f c = cc_up f a v c := by
  by_cases e : c = a
  · subst e
    rw [cc_up_e, h]
  · rw [cc_up_n e]
theorem cc_dk_z {pt : Nat → Nat} {c0 r : Nat} : ∀ k, (∀ j, j < k → pt (3 * r + j) ≠ c0) → cc_dk pt c0 r k = 0 := by
  intro k
  induction k with
  | zero => intro _; rfl
  | succ k ih =>
    intro h
    rw [cc_dk_s, if_neg (h k (by omega)), ih (fun j hj => h j (by omega))]
section
variable {T V F st sz pt ng hd ob : Nat → Nat} {n sk r : Nat} {fD fC fS fU : Int32} {Ah As Az Ap Ag Ad An Ao Av Af At Aw Ak : Nat → Int32}
theorem cx_w55 {post : Int32 → Prop} {J5 : Int32 → Int32 → Prop} {x1 : Int32} {a b k : Nat} (ha : a < 2 ^ 31) (hb : b < 2 ^ 31) (h : J5 (nI (if a ≤ b then a else b)) (nI (k + 1))) :
    wX_worth_55 post J5 x1 (nI a) (nI k) (nI b) fD fC fS fU Ah As Az Ap Ag Ad An Ao Av Af At Aw Ak := by
  unfold wX_worth_55
  refine pk_le a b (fun hle => nm_r (nI_1 k) ?_) (fun hlt => nm_r (nI_1 k) ?_) rfl rfl ha hb
  · rw [if_pos hle] at h
    exact h
  · rw [if_neg (by omega)] at h
    exact h
theorem cx_worth5 {post : Int32 → Prop} (D : cc_D n hd st sz pt ng) (R : cc_TR n Ah As Az Ap Ag hd st sz pt ng) (TV : cc_TA 16 Av V) (VB : ∀ c, c < 16 → V c ≤ 100)
    (hr : r < n) (hp : post (nI (cc_wo V st sz pt ng r))) : ∀ m k, k + m = sz r → wX_worth_5 post (nI r) fD fC fS fU Ah As Az Ap Ag Ad An Ao Av Af At Aw Ak (m + 1) (nI (cc_ls V pt ng r k)) (nI k) := by
  have hn := D.1
  obtain ⟨d1, d2, d3, d4, d5⟩ := D.2 r hr
  obtain ⟨r1, r2, r3, r4⟩ := R r hr
  have c1 : (nI r).toNatClampNeg = r := nI_clamp (by omega)
  have e1 : Az (nI r).toNatClampNeg = nI (sz r) := by rw [c1]; exact r3
  have e2 : As (nI r).toNatClampNeg = nI (st r) := by rw [c1]; exact r2
  have i1 : vp_in (nI r) 20 := vp_in_nI (by omega) (by decide)
  intro m
  induction m with
  | zero =>
    intro k hk
    have hk' : k = sz r := by omega
    subst hk'
    rw [wX_worth_5]
    refine ⟨i1, br_t ?_ ⟨i1, by decide, ?_⟩⟩
    · rw [e1]
      exact nI_le (Nat.le_refl _) (by omega)
    · have hls := cc_ls_100 V pt ng r (sz r)
      have hm : cc_ls V pt ng r (sz r) * st r ≤ 100 * 100 := Nat.mul_le_mul hls d3
      have e3 : nI (cc_ls V pt ng r (sz r)) * As (nI r).toNatClampNeg / 100 = nI (cc_wo V st sz pt ng r) := by
        rw [e2, pk_mul]
        exact pk_div (d := 100) (by omega) (by decide) (by decide)
      rw [e3]
      exact hp
  | succ m ih =>
    intro k hk
    have hk' : k < sz r := by omega
    obtain ⟨a1, a2, a3⟩ := d5 k hk'
    obtain ⟨b1, b2⟩ := r4 k hk'
    have ci : (3 * nI r + nI k : Int32) = nI (3 * r + k) := ca_3 r k
    have cc : (nI (3 * r + k)).toNatClampNeg = 3 * r + k := nI_clamp (by omega)
    have vi : vp_in (3 * nI r + nI k) 60 := by rw [ci]; exact vp_in_nI (by omega) (by decide)
    have ep : Ap (3 * nI r + nI k).toNatClampNeg = nI (pt (3 * r + k)) := by rw [ci, cc]; exact b1
    have eg : Ag (3 * nI r + nI k).toNatClampNeg = nI (ng (3 * r + k)) := by rw [ci, cc]; exact b2
    have cp : (nI (pt (3 * r + k))).toNatClampNeg = pt (3 * r + k) := nI_clamp (by omega)
    have vv := VB _ a1
    have hls := cc_ls_100 V pt ng r k
    rw [wX_worth_5]
    refine ⟨i1, br_f ?_ ⟨vi, ?_, nm_r (e' := nI (V (pt (3 * r + k)))) ?_ ⟨vi, ?_⟩⟩⟩
    · rw [e1]
      exact nI_ge hk' (by omega)
    · rw [ep]
      exact vp_in_nI a1 (by decide)
    · rw [ep, cp]
      exact TV _ a1
    · rw [eg]
      refine pk_eq (ng (3 * r + k)) 0 (fun g0 => ?_) (fun g1 => ?_) rfl rfl (by omega) (by omega)
      · have pe : cc_pv V pt ng (3 * r + k) = V (pt (3 * r + k)) := if_pos g0
        refine cx_w55 (by omega) (by omega) ?_
        rw [← pe, ← cc_ls_s V pt ng r k]
        exact ih (k + 1) (by omega)
      · have pe : cc_pv V pt ng (3 * r + k) = 100 - V (pt (3 * r + k)) := if_neg g1
        have e5 : (100 : Int32) - nI (V (pt (3 * r + k))) = nI (100 - V (pt (3 * r + k))) := pk_sub (a := 100) vv
        rw [e5]
        refine cx_w55 (by omega) (by omega) ?_
        rw [← pe, ← cc_ls_s V pt ng r k]
        exact ih (k + 1) (by omega)
theorem cx_worth {post : Int32 → Prop} (D : cc_D n hd st sz pt ng) (R : cc_TR n Ah As Az Ap Ag hd st sz pt ng) (TV : cc_TA 16 Av V) (VB : ∀ c, c < 16 → V c ≤ 100)
    (hr : r < n) (hp : post (nI (cc_wo V st sz pt ng r))) : wpX_worth post (fD, fC, fS, fU, Ah, As, Az, Ap, Ag, Ad, An, Ao, Av, Af, At, Aw, Ak) (nI r) := by
  unfold wpX_worth
  exact ⟨sz r + 1, cx_worth5 D R TV VB hr hp (sz r) 0 (Nat.zero_add _)⟩
theorem cx_offer {post : SX → Prop} (D : cc_D n hd st sz pt ng) (R : cc_TR n Ah As Az Ap Ag hd st sz pt ng) (TV : cc_TA 16 Av V) (TF : cc_TA 16 Af F) (TT : cc_TA 16 At T)
    (B : ∀ c, c < 16 → V c ≤ 100 ∧ F c ≤ 100 ∧ T c ≤ 1) (hsk : ∀ r, r < 20 → (nI r = fS ↔ r = sk)) (hr : r < n)
    (H : ∀ Af : Nat → Int32, cc_TA 16 Af (cc_of sk hd st sz pt ng T V F r) → post (fD, fC, fS, fU, Ah, As, Az, Ap, Ag, Ad, An, Ao, Av, Af, At, Aw, Ak)) : wpX_makeOffer post (fD, fC, fS, fU, Ah, As, Az, Ap, Ag, Ad, An, Ao, Av, Af, At, Aw, Ak) (nI r) := by
  have hn := D.1
  obtain ⟨d1, d2, d3, d4, d5⟩ := D.2 r hr
  obtain ⟨r1, r2, r3, r4⟩ := R r hr
  obtain ⟨b1, b2, b3⟩ := B _ d1
  have hw := cc_wo_100 (V := V) (sz := sz) (pt := pt) (ng := ng) d3
  have c1 : (nI r).toNatClampNeg = r := nI_clamp (by omega)
  have c2 : (nI (hd r)).toNatClampNeg = hd r := nI_clamp (by omega)
  have i2 : vp_in (nI (hd r)) 16 := vp_in_nI d1 (by decide)
  have hno : ¬ (r ≠ sk ∧ T (hd r) = 0 ∧ F (hd r) < cc_wo V st sz pt ng r) → post (fD, fC, fS, fU, Ah, As, Az, Ap, Ag, Ad, An, Ao, Av, Af, At, Aw, Ak) := by
    intro hz
    refine H Af (ca_eq TF fun c hc => ?_)
    rcases cc_of_or (sk := sk) (hd := hd) (st := st) (sz := sz) (pt := pt) (ng := ng) (T := T) (V := V) (F := F) (r := r) c with e | ⟨e1, e2, e3, e4, _⟩
    · exact e.symm
    · rw [e1] at e3 e4
      exact absurd ⟨e2, e3, e4⟩ hz
  unfold wpX_makeOffer
  refine ⟨vp_in_nI (by omega) (by decide), nm_r (e' := nI (hd r)) (by rw [c1]; exact r1) ?_⟩
  by_cases e : r = sk
  · exact br_t ((hsk r (by omega)).mpr e) (hno (fun z => z.1 e))
  · refine br_f (fun z => e ((hsk r (by omega)).mp z)) ⟨i2, ?_⟩
    rw [c2, TT _ d1, TF _ d1]
    refine pk_eq (T (hd r)) 0 (fun t0 => ?_) (fun t1 => hno (fun z => t1 z.2.1)) rfl rfl (by omega) (by omega)
    refine cx_worth D R TV (fun c hc => (B c hc).1) hr ⟨i2, ?_⟩
    refine pk_le (cc_wo V st sz pt ng r) (F (hd r)) (fun hle => hno (fun z => ?_)) (fun hlt => ⟨i2, nm_e ?_⟩) rfl rfl (by omega) (by omega)
    · have := z.2.2
      omega
    · refine H _ (ca_eq (ca_up TF) fun c hc => ?_)
      by_cases ec : c = hd r
      · subst ec
        rw [cc_up_e]
        exact (if_pos ⟨rfl, e, t0, hlt⟩ : cc_of sk hd st sz pt ng T V F r (hd r) = _).symm
      · rw [cc_up_n ec]
        exact (if_neg (fun z => ec z.1) : cc_of sk hd st sz pt ng T V F r c = _).symm
/-- what best has found in the first k claims of level L -/
def cx_B (L : Nat) (T F : Nat → Nat) (k : Nat) (x2 : Int32) : Prop :=
  (x2 = -1 ∧ ∀ c, 4 * L ≤ c → c < 4 * L + k → T c ≠ 0) ∨ ∃ f, x2 = nI f ∧ 4 * L ≤ f ∧ f < 4 * L + k ∧ T f = 0 ∧ ∀ c, 4 * L ≤ c → c < 4 * L + k → T c = 0 → F c ≤ F f
theorem cx_best4 {post : Int32 → Prop} {L : Nat} (hL : L < 4) (TF : cc_TA 16 Af F) (TT : cc_TA 16 At T) (B : ∀ c, c < 16 → F c ≤ 100 ∧ T c ≤ 1)
    (hx : ¬ ∀ c, 4 * L ≤ c → c < 4 * L + 4 → T c ≠ 0)
    (H : ∀ c0, 4 * L ≤ c0 → c0 < 4 * L + 4 → T c0 = 0 → (∀ c, 4 * L ≤ c → c < 4 * L + 4 → T c = 0 → F c ≤ F c0) → post (nI c0)) :
    ∀ m k (x2 : Int32), k + m = 4 → cx_B L T F k x2 → wX_best_4 post (nI (4 * L)) fD fC fS fU Ah As Az Ap Ag Ad An Ao Av Af At Aw Ak (m + 1) x2 (nI (4 * L + k)) := by
  have e4 : (nI (4 * L) + 4 : Int32) = nI (4 * L + 4) := nI_add (4 * L) 4
  intro m
  induction m with
  | zero =>
    intro k x2 hk hB
    have hk4 : k = 4 := by omega
    subst hk4
    rw [wX_best_4]
    refine br_t ?_ ?_
    · rw [e4]
      exact nI_le (Nat.le_refl _) (by omega)
    · rcases hB with ⟨_, z⟩ | ⟨f, rfl, f1, f2, f3, f4⟩
      · exact absurd z hx
      · exact br_f (ca_m1 (by omega)) (H f f1 f2 f3 f4)
  | succ m ih =>
    intro k x2 hk hB
    have ck : (nI (4 * L + k)).toNatClampNeg = 4 * L + k := nI_clamp (by omega)
    have vk : vp_in (nI (4 * L + k)) 16 := vp_in_nI (by omega) (by decide)
    have et : At (nI (4 * L + k)).toNatClampNeg = nI (T (4 * L + k)) := by rw [ck]; exact TT _ (by omega)
    have ef : Af (nI (4 * L + k)).toNatClampNeg = nI (F (4 * L + k)) := by rw [ck]; exact TF _ (by omega)
    obtain ⟨fb, tb⟩ := B (4 * L + k) (by omega)
    have e1 : nI (4 * L + k) + 1 = nI (4 * L + (k + 1)) := nI_1 (4 * L + k)
    have hcs : ∀ c, c < 4 * L + (k + 1) → c = 4 * L + k ∨ c < 4 * L + k := fun c hc => by omega
    rw [wX_best_4]
    refine br_f ?_ ⟨vk, ?_⟩
    · rw [e4]
      exact nI_ge (by omega) (by omega)
    · rw [et]
      refine pk_eq (T (4 * L + k)) 0 (fun t0 => ?_) (fun t1 => ?_) rfl rfl (by omega) (by omega)
      · rcases hB with ⟨rfl, z⟩ | ⟨f, rfl, f1, f2, f3, f4⟩
        · refine br_t rfl (nm_r e1 (ih (k + 1) _ (by omega) (Or.inr ⟨4 * L + k, rfl, by omega, by omega, t0, fun c c1 c2 c3 => ?_⟩)))
          rcases hcs c c2 with e | e
          · exact Nat.le_of_eq (by rw [e])
          · exact absurd c3 (z c c1 e)
        · have cf : (nI f).toNatClampNeg = f := nI_clamp (by omega)
          have eff : Af (nI f).toNatClampNeg = nI (F f) := by rw [cf]; exact TF _ (by omega)
          have fb2 := (B f (by omega)).1
          refine br_f (ca_m1 (by omega)) ⟨vk, vp_in_nI (by omega) (by decide), ?_⟩
          rw [ef, eff]
          refine pk_le (F (4 * L + k)) (F f) (fun hle => nm_r e1 (ih (k + 1) _ (by omega) (Or.inr ⟨f, rfl, f1, by omega, f3, fun c c1 c2 c3 => ?_⟩)))
            (fun hlt => nm_r e1 (ih (k + 1) _ (by omega) (Or.inr ⟨4 * L + k, rfl, by omega, by omega, t0, fun c c1 c2 c3 => ?_⟩))) rfl rfl (by omega) (by omega)
          · rcases hcs c c2 with e | e
            · rw [e]; exact hle
            · exact f4 c c1 e c3
          · rcases hcs c c2 with e | e
            · exact Nat.le_of_eq (by rw [e])
            · exact Nat.le_trans (f4 c c1 e c3) (Nat.le_of_lt hlt)
      · refine nm_r e1 (ih (k + 1) x2 (by omega) ?_)
        rcases hB with ⟨h, z⟩ | ⟨f, h, f1, f2, f3, f4⟩
        · refine Or.inl ⟨h, fun c c1 c2 => ?_⟩
          rcases hcs c c2 with e | e
          · rw [e]; exact t1
          · exact z c c1 e
        · refine Or.inr ⟨f, h, f1, by omega, f3, fun c c1 c2 c3 => ?_⟩
          rcases hcs c c2 with e | e
          · rw [e] at c3
            exact absurd c3 t1
          · exact f4 c c1 e c3
theorem cx_best {post : Int32 → Prop} {L : Nat} (hL : L < 4) (TF : cc_TA 16 Af F) (TT : cc_TA 16 At T) (B : ∀ c, c < 16 → F c ≤ 100 ∧ T c ≤ 1)
    (hx : ¬ ∀ c, 4 * L ≤ c → c < 4 * L + 4 → T c ≠ 0)
    (H : ∀ c0, 4 * L ≤ c0 → c0 < 4 * L + 4 → T c0 = 0 → (∀ c, 4 * L ≤ c → c < 4 * L + 4 → T c = 0 → F c ≤ F c0) → post (nI c0)) :
    wpX_best post (fD, fC, fS, fU, Ah, As, Az, Ap, Ag, Ad, An, Ao, Av, Af, At, Aw, Ak) (nI (4 * L)) := by
  unfold wpX_best
  exact ⟨4 + 1, cx_best4 hL TF TT B hx H 4 0 (-1) rfl (Or.inl ⟨rfl, fun c h1 h2 => by omega⟩)⟩
theorem cx_count10 {post : SX → Prop} {w : Nat → Nat} {q c0 : Nat} (D : cc_D n hd st sz pt ng) (R : cc_TR n Ah As Az Ap Ag hd st sz pt ng) (TV : cc_TA 16 Av V) (TF : cc_TA 16 Af F) (TT : cc_TA 16 At T)
    (B : ∀ c, c < 16 → V c ≤ 100 ∧ F c ≤ 100 ∧ T c ≤ 1) (hsk : ∀ r, r < 20 → (nI r = fS ↔ r = sk)) (hq : q < n) (h0 : c0 < 16)
    (hw : cc_dk pt c0 q (sz q) ≤ w q) (hw3 : w q ≤ 3)
    (Hno : ∀ Aw : Nat → Int32, cc_TA n Aw (cc_up w q (w q - cc_dk pt c0 q (sz q))) → (w q = 0 ∨ w q - cc_dk pt c0 q (sz q) ≠ 0) → post (fD, fC, fS, fU, Ah, As, Az, Ap, Ag, Ad, An, Ao, Av, Af, At, Aw, Ak))
    (Hof : ∀ Aw Af : Nat → Int32, cc_TA n Aw (cc_up w q (w q - cc_dk pt c0 q (sz q))) → w q ≠ 0 → w q - cc_dk pt c0 q (sz q) = 0 → cc_TA 16 Af (cc_of sk hd st sz pt ng T V F q) → post (fD, fC, fS, fU, Ah, As, Az, Ap, Ag, Ad, An, Ao, Av, Af, At, Aw, Ak)) :
    ∀ (m k : Nat) (Aw : Nat → Int32), k + m = sz q → cc_TA n Aw (cc_up w q (w q - cc_dk pt c0 q k)) → wX_count_10 post (nI q) (nI c0) (nI (w q)) fD fC fS fU (m + 1) (nI k) Ah As Az Ap Ag Ad An Ao Av Af At Aw Ak := by
  have hn := D.1
  obtain ⟨d1, d2, d3, d4, d5⟩ := D.2 q hq
  obtain ⟨r1, r2, r3, r4⟩ := R q hq
  have c1 : (nI q).toNatClampNeg = q := nI_clamp (by omega)
  have e1 : Az (nI q).toNatClampNeg = nI (sz q) := by rw [c1]; exact r3
  have i1 : vp_in (nI q) 20 := vp_in_nI (by omega) (by decide)
  intro m
  induction m with
  | zero =>
    intro k Aw hk hA
    have hk' : k = sz q := by omega
    subst hk'
    have ew : Aw (nI q).toNatClampNeg = nI (w q - cc_dk pt c0 q (sz q)) := by rw [c1, hA q hq, cc_up_e]
    rw [wX_count_10]
    refine ⟨i1, br_t ?_ ?_⟩
    · rw [e1]
      exact nI_le (Nat.le_refl _) (by omega)
    · refine pk_le (w q) 0 (fun hz => Hno Aw hA (Or.inl (by omega))) (fun hz => ⟨i1, ?_⟩) rfl rfl (by omega) (by omega)
      rw [ew]
      refine pk_eq (w q - cc_dk pt c0 q (sz q)) 0 (fun hz2 => ?_) (fun hz2 => Hno Aw hA (Or.inr hz2)) rfl rfl (by omega) (by omega)
      exact cx_offer D R TV TF TT B hsk hq (fun Af' hf => Hof Aw Af' hA (by omega) hz2 hf)
  | succ m ih =>
    intro k Aw hk hA
    have hk' : k < sz q := by omega
    obtain ⟨a1, a2, a3⟩ := d5 k hk'
    obtain ⟨b1, b2⟩ := r4 k hk'
    have ci : (3 * nI q + nI k : Int32) = nI (3 * q + k) := ca_3 q k
    have cc : (nI (3 * q + k)).toNatClampNeg = 3 * q + k := nI_clamp (by omega)
    have vi : vp_in (3 * nI q + nI k) 60 := by rw [ci]; exact vp_in_nI (by omega) (by decide)
    have ep : Ap (3 * nI q + nI k).toNatClampNeg = nI (pt (3 * q + k)) := by rw [ci, cc]; exact b1
    rw [wX_count_10]
    refine ⟨i1, br_f ?_ ⟨vi, ?_⟩⟩
    · rw [e1]
      exact nI_ge hk' (by omega)
    · rw [ep]
      refine pk_eq (pt (3 * q + k)) c0 (fun he => ?_) (fun he => ?_) rfl rfl (by omega) (by omega)
      · have hs : cc_dk pt c0 q (k + 1) = cc_dk pt c0 q k + 1 := by rw [cc_dk_s, if_pos he]
        have hm : cc_dk pt c0 q (k + 1) ≤ cc_dk pt c0 q (k + 1 + m) := cc_dk_mono (k + 1) m
        have hm2 : k + 1 + m = sz q := by omega
        rw [hm2] at hm
        have es : nI (w q - cc_dk pt c0 q k) - 1 = nI (w q - cc_dk pt c0 q (k + 1)) := by
          have e3 : nI (w q - cc_dk pt c0 q k) - nI 1 = nI (w q - cc_dk pt c0 q k - 1) := pk_sub (by omega)
          have e4 : w q - cc_dk pt c0 q k - 1 = w q - cc_dk pt c0 q (k + 1) := by omega
          rw [← e4]
          exact e3
        refine ⟨i1, i1, nm_r (e' := upd Aw q (nI (w q - cc_dk pt c0 q (k + 1)))) ?_ (nm_r (nI_1 k) (ih (k + 1) _ (by omega) ?_))⟩
        · rw [c1, hA q hq, cc_up_e, es]
        · exact ca_eq (ca_up hA) (fun c _ => cc_up_up c)
      · refine nm_r (nI_1 k) (ih (k + 1) Aw (by omega) ?_)
        rw [cc_dk_s, if_neg he]
        exact hA
theorem cx_count {post : SX → Prop} {w : Nat → Nat} {q c0 : Nat} (D : cc_D n hd st sz pt ng) (R : cc_TR n Ah As Az Ap Ag hd st sz pt ng) (TV : cc_TA 16 Av V) (TF : cc_TA 16 Af F) (TT : cc_TA 16 At T)
    (B : ∀ c, c < 16 → V c ≤ 100 ∧ F c ≤ 100 ∧ T c ≤ 1) (hsk : ∀ r, r < 20 → (nI r = fS ↔ r = sk)) (hq : q < n) (h0 : c0 < 16)
    (hw : cc_dk pt c0 q (sz q) ≤ w q) (hw3 : w q ≤ 3) (hA : cc_TA n Aw w)
    (Hno : ∀ Aw : Nat → Int32, cc_TA n Aw (cc_up w q (w q - cc_dk pt c0 q (sz q))) → (w q = 0 ∨ w q - cc_dk pt c0 q (sz q) ≠ 0) → post (fD, fC, fS, fU, Ah, As, Az, Ap, Ag, Ad, An, Ao, Av, Af, At, Aw, Ak))
    (Hof : ∀ Aw Af : Nat → Int32, cc_TA n Aw (cc_up w q (w q - cc_dk pt c0 q (sz q))) → w q ≠ 0 → w q - cc_dk pt c0 q (sz q) = 0 → cc_TA 16 Af (cc_of sk hd st sz pt ng T V F q) → post (fD, fC, fS, fU, Ah, As, Az, Ap, Ag, Ad, An, Ao, Av, Af, At, Aw, Ak)) :
    wpX_count post (fD, fC, fS, fU, Ah, As, Az, Ap, Ag, Ad, An, Ao, Av, Af, At, Aw, Ak) (nI q) (nI c0) := by
  have hn := D.1
  have c1 : (nI q).toNatClampNeg = q := nI_clamp (by omega)
  unfold wpX_count
  refine ⟨vp_in_nI (by omega) (by decide), nm_r (e' := nI (w q)) (by rw [c1]; exact hA q hq) ⟨sz q + 1, ?_⟩⟩
  exact cx_count10 D R TV TF TT B hsk hq h0 hw hw3 Hno Hof (sz q) 0 Aw (Nat.zero_add _) (ca_eq hA fun c _ => cc_up_id rfl c)
end
end
section
/-! the component's walk of settleAll -/
abbrev cx_TJ : Type := Int32 → Int32 → Int32 → Int32 → Int32 → (Nat → Int32) → (Nat → Int32) → (Nat → Int32) → (Nat → Int32) → (Nat → Int32) → (Nat → Int32) → (Nat → Int32) → (Nat → Int32) → (Nat → Int32) → (Nat → Int32) → (Nat → Int32) → (Nat → Int32) → (Nat → Int32) → Prop
section
variable {T T0 V F st sz pt ng hd ob : Nat → Nat} {n sk r t c0 : Nat} {fD fC fS fU : Int32} {Ah As Az Ap Ag Ad An Ao Av Af At Aw Ak : Nat → Int32}
/-- the counts of the rules while those below q have taken notice of the newly settled claim -/
def cx_w (T T0 sz pt : Nat → Nat) (q : Nat) : Nat → Nat := fun r => if r < q then cc_cn T pt r (sz r) else cc_cn T0 pt r (sz r)
theorem cx_w_up {q : Nat} (hT : T0 c0 = 0) (c : Nat) : cc_up (cx_w (cc_up T0 c0 1) T0 sz pt q) q (cx_w (cc_up T0 c0 1) T0 sz pt q q - cc_dk pt c0 q (sz q)) c = cx_w (cc_up T0 c0 1) T0 sz pt (q + 1) c := by
  by_cases e : c = q
  · subst e
    have h1 : cx_w (cc_up T0 c0 1) T0 sz pt c c = cc_cn T0 pt c (sz c) := if_neg (by omega)
    have h2 : cx_w (cc_up T0 c0 1) T0 sz pt (c + 1) c = cc_cn (cc_up T0 c0 1) pt c (sz c) := if_pos (by omega)
    rw [cc_up_e, h1, h2, cc_cn_up hT]
    omega
  · rw [cc_up_n e]
    unfold cx_w
    by_cases h : c < q
    · rw [if_pos h, if_pos (by omega)]
    · rw [if_neg h, if_neg (by omega)]
theorem cx_s121 {post : SX → Prop} {J : cx_TJ} (D : cc_D n hd st sz pt ng) (R : cc_TR n Ah As Az Ap Ag hd st sz pt ng) (hsk : ∀ r, r < 20 → (nI r = fS ↔ r = sk))
    (h0 : c0 < 16) (hT : T0 c0 = 0) (ht : ∀ c, c < 16 → c0 / 4 < c / 4 → cc_up T0 c0 1 c = 0) (TV : cc_TA 16 Av V) (TT : cc_TA 16 At (cc_up T0 c0 1))
    (H : ∀ (Af Aw : Nat → Int32) (F : Nat → Nat), cc_TA 16 Af F → cc_TA n Aw (fun r => cc_cn (cc_up T0 c0 1) pt r (sz r)) → cc_J n sk hd st sz pt ng ob (cc_up T0 c0 1) V c0 n F → J (nI (t + 1)) fD (nI n) fS fU Ah As Az Ap Ag Ad An Ao Av Af At Aw Ak) :
    ∀ (m q : Nat) (Af Aw : Nat → Int32) (F : Nat → Nat), q + m = n → cc_TA 16 Af F → cc_TA n Aw (cx_w (cc_up T0 c0 1) T0 sz pt q) → cc_J n sk hd st sz pt ng ob (cc_up T0 c0 1) V c0 q F →
      wX_settleAll_121 post J (nI t) (nI c0) (m + 1) (nI q) fD (nI n) fS fU Ah As Az Ap Ag Ad An Ao Av Af At Aw Ak := by
  have hn := D.1
  intro m
  induction m with
  | zero =>
    intro q Af Aw F hq hF hw hJ
    have hq' : q = n := by omega
    subst hq'
    rw [wX_settleAll_121]
    exact br_t (nI_le (Nat.le_refl _) (by omega)) (nm_r (nI_1 t) (H Af Aw F hF (ca_eq hw fun c hc => if_pos hc) hJ))
  | succ m ih =>
    intro q Af Aw F hq hF hw hJ
    have hqn : q < n := by omega
    obtain ⟨d1, d2, d3, d4, d5⟩ := D.2 q hqn
    have e1 : cx_w (cc_up T0 c0 1) T0 sz pt q q = cc_cn T0 pt q (sz q) := if_neg (by omega)
    have e2 := cc_cn_up (pt := pt) (r := q) hT (sz q)
    have e3 := cc_cn_le (T := T0) (pt := pt) (r := q) (sz q)
    have hB : ∀ c, c < 16 → V c ≤ 100 ∧ F c ≤ 100 ∧ cc_up T0 c0 1 c ≤ 1 := fun c hc => ⟨(hJ.1.1 c hc).2.2.1, (hJ.1.1 c hc).2.1, (hJ.1.1 c hc).2.2.2.1⟩
    rw [wX_settleAll_121]
    refine br_f (nI_ge hqn (by omega)) (cx_count (w := cx_w (cc_up T0 c0 1) T0 sz pt q) D R TV hF TT hB hsk hqn h0 (by omega) (by omega) hw (fun Aw' hA' hcase => nm_r (nI_1 q) (ih (q + 1) Af Aw' F (by omega) hF (ca_eq hA' fun c _ => cx_w_up hT c) (cc_J_no hJ fun hs k hk he => ?_)))
      (fun Aw' Af' hA' hw1 hw2 hf => nm_r (nI_1 q) (ih (q + 1) Af' Aw' _ (by omega) hf (ca_eq hA' fun c _ => cx_w_up hT c) ?_)))
    · rcases hcase with z | z
      · have z2 := cc_cn_0 (T := T0) (pt := pt) (r := q) (sz q) (by omega) k hk
        rw [he] at z2
        exact z2 hT
      · have z2 := cc_cn_z (T := cc_up T0 c0 1) (pt := pt) (r := q) (sz q) (fun j hj => by have := hs j hj; omega)
        omega
    · have z2 := cc_cn_0 (T := cc_up T0 c0 1) (pt := pt) (r := q) (sz q) (by omega)
      have hs : ∀ k, k < sz q → cc_up T0 c0 1 (pt (3 * q + k)) = 1 := fun k hk => by
        have a := z2 k hk
        have b := (hB _ (d5 k hk).1).2.2
        omega
      have hex : ∃ k, k < sz q ∧ pt (3 * q + k) = c0 := by
        refine Classical.byContradiction fun hne => ?_
        have z3 := cc_dk_z (pt := pt) (c0 := c0) (r := q) (sz q) (fun j hj he => hne ⟨j, hj, he⟩)
        omega
      obtain ⟨k, hk, he⟩ := hex
      exact cc_J_of D hqn h0 ht cc_up_e hJ hs hk he
theorem cx_s84 {post : SX → Prop} (D : cc_D n hd st sz pt ng) (R : cc_TR n Ah As Az Ap Ag hd st sz pt ng) (hsk : ∀ r, r < 20 → (nI r = fS ↔ r = sk))
    (H : ∀ (Av Af At Aw : Nat → Int32) (V : Nat → Nat), cc_TA 16 Av V → cc_Sol n sk hd st sz pt ng ob V → post (fD, nI n, fS, fU, Ah, As, Az, Ap, Ag, Ad, An, Ao, Av, Af, At, Aw, Ak)) :
    ∀ (m t : Nat) (Av Af At Aw : Nat → Int32) (T V F : Nat → Nat), t + m = 16 → cc_TA 16 Av V → cc_TA 16 Af F → cc_TA 16 At T → cc_TA n Aw (fun r => cc_cn T pt r (sz r)) →
      cc_T t T → cc_Q n sk hd st sz pt ng ob T V F → cc_K n sk hd st sz pt ng T V F (fun _ => True) → wX_settleAll_84 post (m + 1) (nI t) fD (nI n) fS fU Ah As Az Ap Ag Ad An Ao Av Af At Aw Ak := by
  have hn := D.1
  intro m
  induction m with
  | zero =>
    intro t Av Af At Aw T V F ht TV TF TT Tw h1 h2 h3
    have ht' : t = 16 := by omega
    subst ht'
    rw [wX_settleAll_84]
    exact br_t (nI_le (a := 16) (b := 16) (Nat.le_refl _) (by decide)) (H Av Af At Aw V TV (cc_Q_end D h1 h2 h3))
  | succ m ih =>
    intro t Av Af At Aw T V F ht TV TF TT Tw h1 h2 h3
    rw [wX_settleAll_84]
    refine br_f (nI_ge (b := 16) (by omega) (by decide)) ?_
    rw [ca_4 (t := t) (by omega)]
    refine (cx_best (L := t / 4) (by omega) TF TT (fun c hc => ⟨(h2.1 c hc).2.1, (h2.1 c hc).2.2.2.1⟩) (fun z => cc_T_ex h1 (by omega) z) (fun c0 l1 l2 t0 hM => ?_))
    have hc0 : c0 < 16 := by omega
    have hl : c0 / 4 = t / 4 := by omega
    have v0 : vp_in (nI c0) 16 := vp_in_nI hc0 (by decide)
    have cc0 : (nI c0).toNatClampNeg = c0 := nI_clamp (by omega)
    have hM' : ∀ c, c < 16 → c / 4 = c0 / 4 → T c = 0 → F c ≤ F c0 := fun c _ hc hz => hM c (by omega) (by omega) hz
    have hT' := cc_T_st h1 (by omega) hl t0
    have htop : ∀ c, c < 16 → c0 / 4 < c / 4 → cc_up T c0 1 c = 0 := by
      intro c hc hlt
      rw [cc_up_n (by intro z; subst z; omega)]
      exact cc_T_top h1 c hc (by omega)
    refine ⟨v0, nm_r (e' := upd At c0 (nI 1)) (by rw [cc0, ca_b1]) ⟨v0, v0, nm_r (e' := upd Av c0 (nI (F c0))) (by rw [cc0, TF c0 hc0]) ⟨n + 1, ?_⟩⟩⟩
    refine cx_s121 (ob := ob) D R hsk hc0 t0 htop (ca_up TV) (ca_up TT) (fun Af' Aw' F' hF' hw' hJ' => ?_) n 0 Af Aw F (Nat.zero_add n) TF (ca_eq Tw fun c _ => ?_) (cc_J_0 h2 h3 hc0 t0 hM')
    · exact ih (t + 1) _ Af' _ Aw' _ _ F' (by omega) (ca_up TV) hF' (ca_up TT) hw' hT' hJ'.1 (fun r hr hk hs _ => hJ'.2.2 r hr hk hs (Or.inl hr))
    · exact (if_neg (Nat.not_lt_zero c)).symm
theorem cx_cn_all {pt : Nat → Nat} {r : Nat} : ∀ k, cc_cn (fun _ => 0) pt r k = k := by
  intro k
  induction k with
  | zero => rfl
  | succ k ih => rw [cc_cn_s, ih, if_pos rfl]
theorem cx_s42 {post : SX → Prop} (D : cc_D n hd st sz pt ng) (R : cc_TR n Ah As Az Ap Ag hd st sz pt ng) (hsk : ∀ r, r < 20 → (nI r = fS ↔ r = sk))
    (TV : cc_TA 16 Av (fun _ => 0)) (TT : cc_TA 16 At (fun _ => 0))
    (H : ∀ (Av Af At Aw : Nat → Int32) (V : Nat → Nat), cc_TA 16 Av V → cc_Sol n sk hd st sz pt ng ob V → post (fD, nI n, fS, fU, Ah, As, Az, Ap, Ag, Ad, An, Ao, Av, Af, At, Aw, Ak)) :
    ∀ (m q : Nat) (Af Aw : Nat → Int32) (F : Nat → Nat), q + m = n → cc_TA 16 Af F → cc_TA q Aw sz → cc_Q n sk hd st sz pt ng ob (fun _ => 0) (fun _ => 0) F →
      cc_K n sk hd st sz pt ng (fun _ => 0) (fun _ => 0) F (fun r => r < q) → wX_settleAll_42 post (m + 1) (nI q) fD (nI n) fS fU Ah As Az Ap Ag Ad An Ao Av Af At Aw Ak := by
  have hn := D.1
  intro m
  induction m with
  | zero =>
    intro q Af Aw F hq hF hw h1 h2
    have hq' : q = n := by omega
    subst hq'
    rw [wX_settleAll_42]
    refine br_t (nI_le (Nat.le_refl _) (by omega)) ⟨16 + 1, ?_⟩
    exact cx_s84 D R hsk H 16 0 Av Af At Aw _ _ F rfl TV hF TT (ca_eq hw fun c _ => (cx_cn_all (sz c)).symm) cc_T_0 h1 (fun r hr hk hs _ => h2 r hr hk hs hr)
  | succ m ih =>
    intro q Af Aw F hq hF hw h1 h2
    have hqn : q < n := by omega
    obtain ⟨d1, d2, d3, d4, d5⟩ := D.2 q hqn
    have c1 : (nI q).toNatClampNeg = q := nI_clamp (by omega)
    have i1 : vp_in (nI q) 20 := vp_in_nI (by omega) (by decide)
    have e1 : Az (nI q).toNatClampNeg = nI (sz q) := by rw [c1]; exact (R q hqn).2.2.1
    rw [wX_settleAll_42]
    refine br_f (nI_ge hqn (by omega)) ⟨i1, i1, nm_r (e' := upd Aw q (nI (sz q))) (by rw [e1, c1]) ⟨i1, ?_⟩⟩
    rw [e1]
    refine pk_eq (sz q) 0 (fun z => ?_) (fun z => ?_) rfl rfl (by omega) (by omega)
    · have hb := cc_B_of D hqn z (fun _ _ => rfl) h1 h2
      exact cx_offer D R TV hF TT (fun c hc => ⟨(h1.1 c hc).2.2.1, (h1.1 c hc).2.1, (h1.1 c hc).2.2.2.1⟩) hsk hqn (fun Af' hf => nm_r (nI_1 q) (ih (q + 1) Af' _ _ (by omega) hf (ca_ext hw) hb.1 hb.2))
    · exact nm_r (nI_1 q) (ih (q + 1) Af _ F (by omega) hF (ca_ext hw) h1 (cc_B_no D hqn z (fun _ _ => rfl) h2))
theorem cx_s2 {post : SX → Prop} (D : cc_D n hd st sz pt ng) (R : cc_TR n Ah As Az Ap Ag hd st sz pt ng) (hsk : ∀ r, r < 20 → (nI r = fS ↔ r = sk))
    (hO : ∀ c, c < 16 → ob c ≤ 100) (TO : cc_TA 16 Ao ob)
    (H : ∀ (Av Af At Aw : Nat → Int32) (V : Nat → Nat), cc_TA 16 Av V → cc_Sol n sk hd st sz pt ng ob V → post (fD, nI n, fS, fU, Ah, As, Az, Ap, Ag, Ad, An, Ao, Av, Af, At, Aw, Ak)) :
    ∀ (m c : Nat) (Av Af At : Nat → Int32), c + m = 16 → cc_TA c Av (fun _ => 0) → cc_TA c Af ob → cc_TA c At (fun _ => 0) → wX_settleAll_2 post fD (nI n) fS fU (m + 1) (nI c) Ah As Az Ap Ag Ad An Ao Av Af At Aw Ak := by
  have hn := D.1
  intro m
  induction m with
  | zero =>
    intro c Av Af At hc TV TF TT
    have hc' : c = 16 := by omega
    subst hc'
    rw [wX_settleAll_2]
    refine br_t (nI_le (a := 16) (b := 16) (Nat.le_refl _) (by decide)) ⟨n + 1, ?_⟩
    exact cx_s42 D R hsk TV TT H n 0 Af Aw ob (Nat.zero_add n) TF (fun c hc => absurd hc (Nat.not_lt_zero c)) (cc_Q_0 hO) (fun r _ _ _ hr => absurd hr (Nat.not_lt_zero r))
  | succ m ih =>
    intro c Av Af At hc TV TF TT
    have c1 : (nI c).toNatClampNeg = c := nI_clamp (by omega)
    have i1 : vp_in (nI c) 16 := vp_in_nI (by omega) (by decide)
    rw [wX_settleAll_2]
    refine br_f (nI_ge (b := 16) (by omega) (by decide)) ⟨i1, nm_r (e' := upd At c (nI 0)) (by rw [c1, ca_b0]) ⟨i1, nm_r (e' := upd Av c (nI 0)) (by rw [c1]; rfl) ⟨i1, i1, nm_r (e' := upd Af c (nI (ob c))) (by rw [c1, TO c (by omega)]) (nm_r (nI_1 c) (ih (c + 1) _ _ _ (by omega) (ca_ext TV) (ca_ext TF) (ca_ext TT)))⟩⟩⟩
theorem cx_settle {post : SX → Prop} (D : cc_D n hd st sz pt ng) (R : cc_TR n Ah As Az Ap Ag hd st sz pt ng) (hsk : ∀ r, r < 20 → (nI r = fS ↔ r = sk))
    (hO : ∀ c, c < 16 → ob c ≤ 100) (TO : cc_TA 16 Ao ob)
    (H : ∀ (Av Af At Aw : Nat → Int32), cc_TA 16 Av (cc_sol n sk hd st sz pt ng ob) → cc_Sol n sk hd st sz pt ng ob (cc_sol n sk hd st sz pt ng ob) → post (fD, nI n, fS, fU, Ah, As, Az, Ap, Ag, Ad, An, Ao, Av, Af, At, Aw, Ak)) :
    wpX_settleAll post (fD, nI n, fS, fU, Ah, As, Az, Ap, Ag, Ad, An, Ao, Av, Af, At, Aw, Ak) := by
  unfold wpX_settleAll
  exact ⟨16 + 1, cx_s2 D R hsk hO TO (fun Av Af At Aw V hV hS => H Av Af At Aw (ca_eq hV (cc_sol_e hS)) (cc_sol_S hS)) 16 0 Av Af At rfl (fun c hc => absurd hc (Nat.not_lt_zero c)) (fun c hc => absurd hc (Nat.not_lt_zero c)) (fun c hc => absurd hc (Nat.not_lt_zero c))⟩
end
end
section
/-! the reference's walks: asks, raise, workOut -/
abbrev cy_TJ : Type := Int32 → Int32 → Int32 → (Nat → Int32) → (Nat → Int32) → (Nat → Int32) → (Nat → Int32) → (Nat → Int32) → (Nat → Int32) → (Nat → Int32) → (Nat → Int32) → (Nat → Int32) → (Nat → Int32) → Prop
section
variable {V V0 st sz pt ng hd ob : Nat → Nat} {n sk r L : Nat} {gD gC : Int32} {Bo Bd Bn Bh Bs Bz Bp Bg Bv Bk : Nat → Int32}
theorem cy_a57 {post : Int32 → Prop} {J5 : Int32 → Int32 → Prop} {x1 : Int32} {a b k : Nat} (ha : a < 2 ^ 31) (hb : b < 2 ^ 31) (h : J5 (nI (if a ≤ b then a else b)) (nI (k + 1))) :
    wY_asks_57 post J5 x1 (nI a) (nI k) (nI b) gD gC Bo Bd Bn Bh Bs Bz Bp Bg Bv Bk := by
  unfold wY_asks_57
  refine pk_le a b (fun hle => nm_r (nI_1 k) ?_) (fun hlt => nm_r (nI_1 k) ?_) rfl rfl ha hb
  · rw [if_pos hle] at h
    exact h
  · rw [if_neg (by omega)] at h
    exact h
theorem cy_asks5 {post : Int32 → Prop} (D : cc_D n hd st sz pt ng) (R : cc_TR n Bh Bs Bz Bp Bg hd st sz pt ng) (TV : cc_TA 16 Bv V) (VB : ∀ c, c < 16 → V c ≤ 100)
    (hr : r < n) (hp : post (nI (cc_wo V st sz pt ng r))) : ∀ m k, k + m = sz r → wY_asks_5 post (nI r) gD gC Bo Bd Bn Bh Bs Bz Bp Bg Bv Bk (m + 1) (nI (cc_ls V pt ng r k)) (nI k) := by
  have hn := D.1
  obtain ⟨d1, d2, d3, d4, d5⟩ := D.2 r hr
  obtain ⟨r1, r2, r3, r4⟩ := R r hr
  have c1 : (nI r).toNatClampNeg = r := nI_clamp (by omega)
  have e1 : Bz (nI r).toNatClampNeg = nI (sz r) := by rw [c1]; exact r3
  have e2 : Bs (nI r).toNatClampNeg = nI (st r) := by rw [c1]; exact r2
  have i1 : vp_in (nI r) 20 := vp_in_nI (by omega) (by decide)
  intro m
  induction m with
  | zero =>
    intro k hk
    have hk' : k = sz r := by omega
    subst hk'
    rw [wY_asks_5]
    refine ⟨i1, br_t ?_ ?_⟩
    · rw [e1]
      exact nI_le (Nat.le_refl _) (by omega)
    · have hls := cc_ls_100 V pt ng r (sz r)
      have hm : cc_ls V pt ng r (sz r) * st r ≤ 100 * 100 := Nat.mul_le_mul hls d3
      have e3 : nI (cc_ls V pt ng r (sz r)) * Bs (nI r).toNatClampNeg / 100 = nI (cc_wo V st sz pt ng r) := by
        rw [e2, pk_mul]
        exact pk_div (d := 100) (by omega) (by decide) (by decide)
      unfold wY_asks_72
      rw [e3]
      exact ⟨i1, by decide, hp⟩
  | succ m ih =>
    intro k hk
    have hk' : k < sz r := by omega
    obtain ⟨a1, a2, a3⟩ := d5 k hk'
    obtain ⟨b1, b2⟩ := r4 k hk'
    have ci : (3 * nI r + nI k : Int32) = nI (3 * r + k) := ca_3 r k
    have cc : (nI (3 * r + k)).toNatClampNeg = 3 * r + k := nI_clamp (by omega)
    have vi : vp_in (3 * nI r + nI k) 60 := by rw [ci]; exact vp_in_nI (by omega) (by decide)
    have ep : Bp (3 * nI r + nI k).toNatClampNeg = nI (pt (3 * r + k)) := by rw [ci, cc]; exact b1
    have eg : Bg (3 * nI r + nI k).toNatClampNeg = nI (ng (3 * r + k)) := by rw [ci, cc]; exact b2
    have cp : (nI (pt (3 * r + k))).toNatClampNeg = pt (3 * r + k) := nI_clamp (by omega)
    have vv := VB _ a1
    have hls := cc_ls_100 V pt ng r k
    rw [wY_asks_5]
    refine ⟨i1, br_f ?_ (br_f (nI_ge (b := 3) (by omega) (by decide)) ⟨vi, ?_, nm_r (e' := nI (V (pt (3 * r + k)))) ?_ ⟨vi, ?_⟩⟩)⟩
    · rw [e1]
      exact nI_ge hk' (by omega)
    · rw [ep]
      exact vp_in_nI a1 (by decide)
    · rw [ep, cp]
      exact TV _ a1
    · rw [eg]
      refine pk_eq (ng (3 * r + k)) 0 (fun g0 => ?_) (fun g1 => ?_) rfl rfl (by omega) (by omega)
      · have pe : cc_pv V pt ng (3 * r + k) = V (pt (3 * r + k)) := if_pos g0
        refine cy_a57 (by omega) (by omega) ?_
        rw [← pe, ← cc_ls_s V pt ng r k]
        exact ih (k + 1) (by omega)
      · have pe : cc_pv V pt ng (3 * r + k) = 100 - V (pt (3 * r + k)) := if_neg g1
        have e5 : (100 : Int32) - nI (V (pt (3 * r + k))) = nI (100 - V (pt (3 * r + k))) := pk_sub (a := 100) vv
        refine nm_r e5 (cy_a57 (by omega) (by omega) ?_)
        rw [← pe, ← cc_ls_s V pt ng r k]
        exact ih (k + 1) (by omega)
theorem cy_asks {post : Int32 → Prop} (D : cc_D n hd st sz pt ng) (R : cc_TR n Bh Bs Bz Bp Bg hd st sz pt ng) (TV : cc_TA 16 Bv V) (VB : ∀ c, c < 16 → V c ≤ 100)
    (hr : r < n) (hp : post (nI (cc_wo V st sz pt ng r))) : wpY_asks post (gD, gC, Bo, Bd, Bn, Bh, Bs, Bz, Bp, Bg, Bv, Bk) (nI r) := by
  unfold wpY_asks
  exact ⟨sz r + 1, cy_asks5 D R TV VB hr hp (sz r) 0 (Nat.zero_add _)⟩
theorem cy_raise5 {post : Int32 → SY → Prop} {x2 : Int32} (D : cc_D n hd st sz pt ng) (R : cc_TR n Bh Bs Bz Bp Bg hd st sz pt ng) (hL : L < 4) (hsk : ∀ r, r < 20 → (nI r = x2 ↔ r = sk))
    (H : ∀ (Bv : Nat → Int32) (V : Nat → Nat) (b : Nat), cc_TA 16 Bv V → cc_YR n sk hd st sz pt ng ob L V0 V b n → post (nI b) (gD, nI n, Bo, Bd, Bn, Bh, Bs, Bz, Bp, Bg, Bv, Bk)) :
    ∀ (m q b : Nat) (Bv : Nat → Int32) (V : Nat → Nat), q + m = n → cc_TA 16 Bv V → cc_YR n sk hd st sz pt ng ob L V0 V b q →
      wY_raise_5 post (nI L) x2 gD (nI n) (m + 1) (nI b) (nI q) Bo Bd Bn Bh Bs Bz Bp Bg Bv Bk := by
  have hn := D.1
  intro m
  induction m with
  | zero =>
    intro q b Bv V hq TV Y
    have hq' : q = n := by omega
    subst hq'
    have hb : narrow .boolean (.int (nI b)) = .int (nI b) := by
      rcases cc_YR_b Y with e | e
      · subst e; rfl
      · subst e; rfl
    rw [wY_raise_5]
    exact br_t (nI_le (Nat.le_refl _) (by omega)) ⟨hb, H Bv V b TV Y⟩
  | succ m ih =>
    intro q b Bv V hq TV Y
    have hqn : q < n := by omega
    obtain ⟨d1, d2, d3, d4, d5⟩ := D.2 q hqn
    obtain ⟨r1, r2, r3, r4⟩ := R q hqn
    have hw := cc_wo_100 (V := V) (sz := sz) (pt := pt) (ng := ng) d3
    have c1 : (nI q).toNatClampNeg = q := nI_clamp (by omega)
    have c2 : (nI (hd q)).toNatClampNeg = hd q := nI_clamp (by omega)
    have i1 : vp_in (nI q) 20 := vp_in_nI (by omega) (by decide)
    have i2 : vp_in (nI (hd q)) 16 := vp_in_nI d1 (by decide)
    have hv := (Y.1.2.1 _ d1).2.1
    rw [wY_raise_5]
    refine br_f (nI_ge hqn (by omega)) (br_f (nI_ge (b := 20) (by omega) (by decide)) ⟨i1, nm_r (e' := nI (hd q)) (by rw [c1]; exact r1) ?_⟩)
    by_cases e : q = sk
    · exact br_t ((hsk q (by omega)).mpr e) (nm_r (nI_1 q) (ih (q + 1) b Bv V (by omega) TV (cc_YR_no Y fun z => absurd e z)))
    · refine br_f (fun z => e ((hsk q (by omega)).mp z)) ⟨by decide, ?_⟩
      rw [ca_d4 (by omega)]
      refine pk_eq (hd q / 4) L (fun hl => ?_) (fun hl => ?_) rfl rfl (by omega) (by omega)
      · refine cy_asks D R TV (fun c hc => (Y.1.2.1 c hc).2.1) hqn ⟨i2, ?_⟩
        rw [c2, TV _ d1]
        refine pk_le (cc_wo V st sz pt ng q) (V (hd q)) (fun hle => nm_r (nI_1 q) (ih (q + 1) b Bv V (by omega) TV (cc_YR_no Y fun _ _ => hle)))
          (fun hlt => ⟨i2, nm_e (nm_r (nI_1 q) (ih (q + 1) 1 _ _ (by omega) (ca_up TV) (cc_YR_up D hL Y hqn e hl hlt)))⟩) rfl rfl (by omega) (by omega)
      · exact nm_r (nI_1 q) (ih (q + 1) b Bv V (by omega) TV (cc_YR_no Y fun _ z => absurd z hl))
theorem cy_raise {post : Int32 → SY → Prop} {x2 : Int32} (D : cc_D n hd st sz pt ng) (R : cc_TR n Bh Bs Bz Bp Bg hd st sz pt ng) (hL : L < 4) (hsk : ∀ r, r < 20 → (nI r = x2 ↔ r = sk))
    (TV : cc_TA 16 Bv V0) (Y : cc_YI n sk hd st sz pt ng ob L V0)
    (H : ∀ (Bv : Nat → Int32) (V : Nat → Nat) (b : Nat), cc_TA 16 Bv V → cc_YR n sk hd st sz pt ng ob L V0 V b n → post (nI b) (gD, nI n, Bo, Bd, Bn, Bh, Bs, Bz, Bp, Bg, Bv, Bk)) :
    wpY_raise post (gD, nI n, Bo, Bd, Bn, Bh, Bs, Bz, Bp, Bg, Bv, Bk) (nI L) x2 := by
  unfold wpY_raise
  exact ⟨n + 1, cy_raise5 D R hL hsk H n 0 0 Bv V0 (Nat.zero_add n) TV (cc_YR_0 Y)⟩
theorem cy_w55 {post : SY → Prop} {J : cy_TJ} {x3 : Int32} (D : cc_D n hd st sz pt ng) (R : cc_TR n Bh Bs Bz Bp Bg hd st sz pt ng) (hL : L < 4) (hsk : ∀ r, r < 20 → (nI r = x3 ↔ r = sk))
    (H : ∀ (Bv : Nat → Int32) (V : Nat → Nat), cc_TA 16 Bv V → cc_Y0 n sk hd st sz pt ng ob (L + 1) V → J (nI (L + 1)) gD (nI n) Bo Bd Bn Bh Bs Bz Bp Bg Bv Bk) :
    ∀ (m i b : Nat) (Bv : Nat → Int32) (V : Nat → Nat), i + m = 500 → cc_TA 16 Bv V → cc_YI n sk hd st sz pt ng ob L V → (b = 0 ∧ cc_Cq n sk hd st sz pt ng L V n ∨ b = 1 ∧ i ≤ cc_su L V) →
      wY_workOut_55 post J x3 (nI L) (m + 1) (nI b) (nI i) gD (nI n) Bo Bd Bn Bh Bs Bz Bp Bg Bv Bk := by
  intro m
  induction m with
  | zero =>
    intro i b Bv V hi TV Y hb
    have hi' : i = 500 := by omega
    subst hi'
    have hs := cc_su_le hL Y
    rw [wY_workOut_55]
    refine br_t (nI_le (a := 500) (b := 500) (Nat.le_refl _) (by decide)) (nm_r (nI_1 L) (H Bv V TV (cc_YI_end hL Y ?_)))
    rcases hb with z | z
    · exact z.2
    · omega
  | succ m ih =>
    intro i b Bv V hi TV Y hb
    rw [wY_workOut_55]
    refine br_f (nI_ge (b := 500) (by omega) (by decide)) ?_
    rcases hb with ⟨rfl, z⟩ | ⟨rfl, z⟩
    · exact br_t rfl (nm_r (nI_1 L) (H Bv V TV (cc_YI_end hL Y z)))
    · refine br_f (by decide) (cy_raise D R hL hsk TV Y (fun Bv' V' b' TV' Y' => nm_r (nI_1 i) (ih (i + 1) b' Bv' V' (by omega) TV' Y'.1 ?_)))
      rcases Y'.2.2 with z' | ⟨z1, z2⟩
      · exact Or.inl z'
      · exact Or.inr ⟨z1, by omega⟩
theorem cy_w43 {post : SY → Prop} {x3 : Int32} (D : cc_D n hd st sz pt ng) (R : cc_TR n Bh Bs Bz Bp Bg hd st sz pt ng) (hsk : ∀ r, r < 20 → (nI r = x3 ↔ r = sk))
    (H : ∀ (Bv : Nat → Int32) (V : Nat → Nat), cc_TA 16 Bv V → cc_Sol n sk hd st sz pt ng ob V → post (gD, nI n, Bo, Bd, Bn, Bh, Bs, Bz, Bp, Bg, Bv, Bk)) :
    ∀ (m L : Nat) (Bv : Nat → Int32) (V : Nat → Nat), L + m = 4 → cc_TA 16 Bv V → cc_Y0 n sk hd st sz pt ng ob L V → wY_workOut_43 post x3 (m + 1) (nI L) gD (nI n) Bo Bd Bn Bh Bs Bz Bp Bg Bv Bk := by
  intro m
  induction m with
  | zero =>
    intro L Bv V hL TV Y
    have hL' : L = 4 := by omega
    subst hL'
    rw [wY_workOut_43]
    exact br_t (nI_le (a := 4) (b := 4) (Nat.le_refl _) (by decide)) (H Bv V TV (cc_Y0_end Y))
  | succ m ih =>
    intro L Bv V hL TV Y
    rw [wY_workOut_43]
    refine br_f (nI_ge (b := 4) (by omega) (by decide)) ⟨500 + 1, ?_⟩
    exact cy_w55 (ob := ob) D R (by omega) hsk (fun Bv' V' TV' Y' => ih (L + 1) Bv' V' (by omega) TV' Y') 500 0 1 Bv V rfl TV (cc_YI_0 (by omega) Y) (Or.inr ⟨rfl, Nat.zero_le _⟩)
theorem cy_w3 {post : SY → Prop} {x1 x2 x3 : Int32} (D : cc_D n hd st sz pt ng) (R : cc_TR n Bh Bs Bz Bp Bg hd st sz pt ng) (hsk : ∀ r, r < 20 → (nI r = x3 ↔ r = sk))
    (hO : ∀ c, c < 16 → ob c ≤ 100) (TO : ∀ c, c < 16 → (nI c = x1 → x2 = nI (ob c)) ∧ (¬ nI c = x1 → Bo c = nI (ob c)))
    (H : ∀ (Bv : Nat → Int32) (V : Nat → Nat), cc_TA 16 Bv V → cc_Sol n sk hd st sz pt ng ob V → post (gD, nI n, Bo, Bd, Bn, Bh, Bs, Bz, Bp, Bg, Bv, Bk)) :
    ∀ (m c : Nat) (Bv : Nat → Int32), c + m = 16 → cc_TA c Bv ob → wY_workOut_3 post x1 x2 x3 gD (nI n) (m + 1) (nI c) Bo Bd Bn Bh Bs Bz Bp Bg Bv Bk := by
  intro m
  induction m with
  | zero =>
    intro c Bv hc TV
    have hc' : c = 16 := by omega
    subst hc'
    rw [wY_workOut_3]
    refine br_t (nI_le (a := 16) (b := 16) (Nat.le_refl _) (by decide)) ⟨4 + 1, ?_⟩
    exact cy_w43 D R hsk H 4 0 Bv ob rfl TV ⟨fun l hl => absurd hl (Nat.not_lt_zero l), fun c hc => ⟨Nat.le_refl _, hO c hc, fun _ => rfl⟩⟩
  | succ m ih =>
    intro c Bv hc TV
    have c1 : (nI c).toNatClampNeg = c := nI_clamp (by omega)
    have i1 : vp_in (nI c) 16 := vp_in_nI (by omega) (by decide)
    rw [wY_workOut_3]
    refine br_f (nI_ge (b := 16) (by omega) (by decide)) (br_c (fun z => ⟨i1, nm_r (e' := upd Bv c (nI (ob c))) ?_ (nm_r (nI_1 c) (ih (c + 1) _ (by omega) (ca_ext TV)))⟩) (fun z => ⟨i1, i1, nm_r (e' := upd Bv c (nI (ob c))) ?_ (nm_r (nI_1 c) (ih (c + 1) _ (by omega) (ca_ext TV)))⟩))
    · rw [c1, (TO c (by omega)).1 z]
    · rw [c1, (TO c (by omega)).2 z]
theorem cy_work {post : SY → Prop} {x1 x2 x3 : Int32} (D : cc_D n hd st sz pt ng) (R : cc_TR n Bh Bs Bz Bp Bg hd st sz pt ng) (hsk : ∀ r, r < 20 → (nI r = x3 ↔ r = sk))
    (hO : ∀ c, c < 16 → ob c ≤ 100) (TO : ∀ c, c < 16 → (nI c = x1 → x2 = nI (ob c)) ∧ (¬ nI c = x1 → Bo c = nI (ob c)))
    (H : ∀ (Bv : Nat → Int32), cc_TA 16 Bv (cc_sol n sk hd st sz pt ng ob) → cc_Sol n sk hd st sz pt ng ob (cc_sol n sk hd st sz pt ng ob) → post (gD, nI n, Bo, Bd, Bn, Bh, Bs, Bz, Bp, Bg, Bv, Bk)) :
    wpY_workOut post (gD, nI n, Bo, Bd, Bn, Bh, Bs, Bz, Bp, Bg, Bv, Bk) x1 x2 x3 := by
  unfold wpY_workOut
  exact ⟨16 + 1, cy_w3 D R hsk hO TO (fun Bv V hV hS => H Bv (ca_eq hV (cc_sol_e hS)) (cc_sol_S hS)) 16 0 Bv rfl (fun c hc => absurd hc (Nat.not_lt_zero c))⟩
end
end
section
/-! the relation; claims and rules by their numbers -/
/-- the certainties that the component holds while they are current -/
def cr_VA (n : Nat) (hd st sz pt ng ob : Nat → Nat) (Av : Nat → Int32) : Prop :=
  cc_TA 16 Av (cc_sol n 20 hd st sz pt ng ob) ∧ cc_Sol n 20 hd st sz pt ng ob (cc_sol n 20 hd st sz pt ng ob)
def cr_G (n d : Nat) (hd st sz pt ng ob dq dr : Nat → Nat) : Prop :=
  cc_D n hd st sz pt ng ∧ d ≤ 3 ∧ (∀ k, k < d → dq k < 16 ∧ dr k ≤ 1) ∧ (∀ c, c < 16 → ob c ≤ 100)
def cr_X (n d : Nat) (hd st sz pt ng ob dq dr : Nat → Nat) (fU : Int32) (Ah As Az Ap Ag Ad An Ao Av : Nat → Int32) : Prop :=
  cc_TR n Ah As Az Ap Ag hd st sz pt ng ∧ cc_TA d Ad dq ∧ cc_TA d An dr ∧ cc_TA 16 Ao ob ∧ (¬ fU = 0 → cr_VA n hd st sz pt ng ob Av)
def cr_Y (n d : Nat) (hd st sz pt ng ob dq dr : Nat → Nat) (Bo Bd Bn Bh Bs Bz Bp Bg : Nat → Int32) : Prop :=
  cc_TR n Bh Bs Bz Bp Bg hd st sz pt ng ∧ cc_TA d Bd dq ∧ cc_TA d Bn dr ∧ cc_TA 16 Bo ob
/-- both states hold the same draft, the same rules, the same observations -/
def i_Rel (k : Nat) (u : SX) (v : SY) : Prop := match u, v with
  | (fD, fC, fS, fU, Ah, As, Az, Ap, Ag, Ad, An, Ao, Av, Af, At, Aw, Ak), (gD, gC, Bo, Bd, Bn, Bh, Bs, Bz, Bp, Bg, Bv, Bk) => ∃ (n d : Nat) (hd st sz pt ng ob dq dr : Nat → Nat),
    fD = nI d ∧ fC = nI n ∧ fS = -1 ∧ gD = nI d ∧ gC = nI n ∧ cr_G n d hd st sz pt ng ob dq dr ∧
    cr_X n d hd st sz pt ng ob dq dr fU Ah As Az Ap Ag Ad An Ao Av ∧ cr_Y n d hd st sz pt ng ob dq dr Bo Bd Bn Bh Bs Bz Bp Bg ∧ k = k
theorem cr_el {P : SX → SY → Prop}
    (h : ∀ (n d : Nat) (hd st sz pt ng ob dq dr : Nat → Nat) (fU : Int32) (Ah As Az Ap Ag Ad An Ao Av Af At Aw Ak : Nat → Int32) (Bo Bd Bn Bh Bs Bz Bp Bg Bv Bk : Nat → Int32),
      cr_G n d hd st sz pt ng ob dq dr → cr_X n d hd st sz pt ng ob dq dr fU Ah As Az Ap Ag Ad An Ao Av → cr_Y n d hd st sz pt ng ob dq dr Bo Bd Bn Bh Bs Bz Bp Bg →
      P (nI d, nI n, -1, fU, Ah, As, Az, Ap, Ag, Ad, An, Ao, Av, Af, At, Aw, Ak) (nI d, nI n, Bo, Bd, Bn, Bh, Bs, Bz, Bp, Bg, Bv, Bk)) {k : Nat} {u : SX} {v : SY} (I : i_Rel k u v) : P u v := by
  obtain ⟨fD, fC, fS, fU, Ah, As, Az, Ap, Ag, Ad, An, Ao, Av, Af, At, Aw, Ak⟩ := u
  obtain ⟨gD, gC, Bo, Bd, Bn, Bh, Bs, Bz, Bp, Bg, Bv, Bk⟩ := v
  obtain ⟨n, d, hd, st, sz, pt, ng, ob, dq, dr, e1, e2, e3, e4, e5, G, X, Y, _⟩ := I
  subst e1 e2 e3 e4 e5
  exact h n d hd st sz pt ng ob dq dr fU Ah As Az Ap Ag Ad An Ao Av Af At Aw Ak Bo Bd Bn Bh Bs Bz Bp Bg Bv Bk G X Y
theorem i_up {k : Nat} {u : SX} {v : SY} (h : i_Rel k u v) : i_Rel (k + 4) u v := by
  obtain ⟨fD, fC, fS, fU, Ah, As, Az, Ap, Ag, Ad, An, Ao, Av, Af, At, Aw, Ak⟩ := u
  obtain ⟨gD, gC, Bo, Bd, Bn, Bh, Bs, Bz, Bp, Bg, Bv, Bk⟩ := v
  obtain ⟨n, d, hd, st, sz, pt, ng, ob, dq, dr, e1, e2, e3, e4, e5, G, X, Y, _⟩ := h
  exact ⟨n, d, hd, st, sz, pt, ng, ob, dq, dr, e1, e2, e3, e4, e5, G, X, Y, rfl⟩
section
variable {st sz pt ng hd ob dq dr : Nat → Nat} {n d k : Nat} {fD fC fS fU : Int32} {Ah As Az Ap Ag Ad An Ao Av Af At Aw Ak : Nat → Int32} {gD gC : Int32} {Bo Bd Bn Bh Bs Bz Bp Bg Bv Bk : Nat → Int32}
theorem cr_in (G : cr_G n d hd st sz pt ng ob dq dr) (X : cr_X n d hd st sz pt ng ob dq dr fU Ah As Az Ap Ag Ad An Ao Av) (Y : cr_Y n d hd st sz pt ng ob dq dr Bo Bd Bn Bh Bs Bz Bp Bg) :
    i_Rel k (nI d, nI n, -1, fU, Ah, As, Az, Ap, Ag, Ad, An, Ao, Av, Af, At, Aw, Ak) (nI d, nI n, Bo, Bd, Bn, Bh, Bs, Bz, Bp, Bg, Bv, Bk) :=
  ⟨n, d, hd, st, sz, pt, ng, ob, dq, dr, rfl, rfl, rfl, rfl, rfl, G, X, Y, rfl⟩
theorem i_vc0 : wpX_init (fun u => wpY_init (fun v => i_Rel 0 u v)) := by
  have z : ∀ (m : Nat), m = 0 → ∀ A a, cc_TA m A a := fun m hm A a c hc => by omega
  show i_Rel 0 (nI 0, nI 0, -1, 0, fun _ => 0, fun _ => 0, fun _ => 0, fun _ => 0, fun _ => 0, fun _ => 0, fun _ => 0, fun _ => 0, fun _ => 0, fun _ => 0, fun _ => 0, fun _ => 0, fun _ => 0) (nI 0, nI 0, fun _ => 0, fun _ => 0, fun _ => 0, fun _ => 0, fun _ => 0, fun _ => 0, fun _ => 0, fun _ => 0, fun _ => 0, fun _ => 0)
  refine cr_in (n := 0) (d := 0) (hd := fun _ => 0) (st := fun _ => 0) (sz := fun _ => 0) (pt := fun _ => 0) (ng := fun _ => 0) (ob := fun _ => 0) (dq := fun _ => 0) (dr := fun _ => 0)
    ⟨⟨Nat.zero_le _, fun r hr => absurd hr (Nat.not_lt_zero r)⟩, Nat.zero_le _, fun r hr => absurd hr (Nat.not_lt_zero r), fun _ _ => Nat.zero_le _⟩
    ⟨fun r hr => absurd hr (Nat.not_lt_zero r), z 0 rfl _ _, z 0 rfl _ _, fun _ _ => rfl, fun h => absurd rfl h⟩
    ⟨fun r hr => absurd hr (Nat.not_lt_zero r), z 0 rfl _ _, z 0 rfl _ _, fun _ _ => rfl⟩
theorem cx_cl {post : Int32 → Prop} {c : Nat} (hc : c < 16) (h : post 1) : wpX_isClaim post (nI c) := by
  unfold wpX_isClaim
  exact br_f (nI_pos (by omega)) (br_f (nI_ge (b := 16) hc (by decide)) h)
theorem cx_nc {post : Int32 → Prop} {x : Int32} (hx : ¬ ∃ c, c < 16 ∧ x = nI c) (h : post 0) : wpX_isClaim post x := by
  unfold wpX_isClaim
  by_cases h0 : x < 0
  · exact br_t h0 h
  · exact br_f h0 (br_t ((ca_no (by decide) hx).resolve_left h0) h)
theorem cy_cl {post : Int32 → Prop} {c : Nat} (hc : c < 16) (h : post 0) : wpY_bad post (gD, gC, Bo, Bd, Bn, Bh, Bs, Bz, Bp, Bg, Bv, Bk) (nI c) := by
  unfold wpY_bad
  exact br_f (nI_pos (by omega)) (br_t (nI_le (b := 15) (by omega) (by decide)) h)
theorem cy_nc {post : Int32 → Prop} {x : Int32} (hx : ¬ ∃ c, c < 16 ∧ x = nI c) (h : post 1) : wpY_bad post (gD, gC, Bo, Bd, Bn, Bh, Bs, Bz, Bp, Bg, Bv, Bk) x := by
  unfold wpY_bad
  by_cases h0 : x < 0
  · exact br_t h0 h
  · refine br_f h0 (br_f ?_ h)
    obtain ⟨j, hj, rfl⟩ := nI_of h0
    exact nI_ge (a := 15) (by have : ¬ j < 16 := fun z => hx ⟨j, z, rfl⟩; omega) hj
theorem cx_ru {post : Int32 → Prop} {r : Nat} (hr : r < n) (hn : n ≤ 20) (h : post 1) : wpX_isRule post (fD, nI n, fS, fU, Ah, As, Az, Ap, Ag, Ad, An, Ao, Av, Af, At, Aw, Ak) (nI r) := by
  unfold wpX_isRule
  exact br_f (nI_pos (by omega)) (br_f (nI_ge hr (by omega)) h)
theorem cx_nr {post : Int32 → Prop} {x : Int32} (hn : n ≤ 20) (hx : ¬ ∃ r, r < n ∧ x = nI r) (h : post 0) : wpX_isRule post (fD, nI n, fS, fU, Ah, As, Az, Ap, Ag, Ad, An, Ao, Av, Af, At, Aw, Ak) x := by
  unfold wpX_isRule
  by_cases h0 : x < 0
  · exact br_t h0 h
  · exact br_f h0 (br_t ((ca_no (by omega) hx).resolve_left h0) h)
theorem cy_ru {post : Int32 → Prop} {r : Nat} (hr : r < n) (hn : n ≤ 20) (h : post 0) : wpY_badRule post (gD, nI n, Bo, Bd, Bn, Bh, Bs, Bz, Bp, Bg, Bv, Bk) (nI r) := by
  unfold wpY_badRule
  exact br_f (nI_pos (by omega)) (br_f (nI_ge hr (by omega)) (br_t (nI_lt (b := 20) (by omega) (by decide)) h))
theorem cy_nr {post : Int32 → Prop} {x : Int32} (hn : n ≤ 20) (hx : ¬ ∃ r, r < n ∧ x = nI r) (h : post 1) : wpY_badRule post (gD, nI n, Bo, Bd, Bn, Bh, Bs, Bz, Bp, Bg, Bv, Bk) x := by
  unfold wpY_badRule
  by_cases h0 : x < 0
  · exact br_t h0 h
  · exact br_f h0 (br_t ((ca_no (by omega) hx).resolve_left h0) h)
/-- x is within 0 .. b or it is not -/
theorem cr_rg {x : Int32} (a b : Nat) (hab : a ≤ b) (hb : b < 2 ^ 31) (h0 : ¬ x < nI a) (h1 : x ≤ nI b) : ∃ j : Nat, a ≤ j ∧ j ≤ b ∧ x = nI j := by
  have hx : ¬ x < 0 := fun z => h0 (Int32.lt_of_lt_of_le z (nI_pos' (by omega)))
  obtain ⟨j, hj, rfl⟩ := nI_of hx
  refine ⟨j, ?_, (nI_leI hj hb).mp h1, rfl⟩
  have : ¬ j < a := fun z => h0 (nI_lt z (by omega))
  omega
end
end
section
/-! the methods without a loop -/
def cr_b (x : Int32) : Nat := if x = 0 then 0 else 1
theorem cr_b_le (x : Int32) : cr_b x ≤ 1 := by unfold cr_b; split <;> omega
theorem ca_snoc {d v : Nat} {A : Nat → Int32} {a : Nat → Nat} (h : cc_TA d A a) : cc_TA (d + 1) (upd A d (nI v)) (cc_up a d v) := by
  intro j hj
  by_cases e : j = d
  · subst e
    rw [pk_us, cc_up_e]
  · rw [pk_un e, cc_up_n e]
    exact h j (by omega)
section
variable {st sz pt ng hd ob dq dr : Nat → Nat} {n d k c r : Nat} {x y : Int32} {fD fC fS fU : Int32} {Ah As Az Ap Ag Ad An Ao Av Af At Aw Ak : Nat → Int32} {gD gC : Int32} {Bo Bd Bn Bh Bs Bz Bp Bg Bv Bk : Nat → Int32}
theorem cx_premise {post : Int32 → SX → Prop} (hc : c < 16) (hd : d < 3) (h : post (nI (d + 1)) (nI (d + 1), fC, fS, fU, Ah, As, Az, Ap, Ag, upd Ad d (nI c), upd An d (nI (cr_b y)), Ao, Av, Af, At, Aw, Ak)) : wpX_premise post (nI d, fC, fS, fU, Ah, As, Az, Ap, Ag, Ad, An, Ao, Av, Af, At, Aw, Ak) (nI c) y := by
  have c1 : (nI d).toNatClampNeg = d := nI_clamp (by omega)
  have i1 : vp_in (nI d) 3 := vp_in_nI hd (by decide)
  have h3 : ¬ nI d = 3 := fun z => by have := (nI_eq (a := d) (b := 3) (by omega) (by decide)).mp z; omega
  unfold wpX_premise
  refine cx_cl hc (br_f (by decide) (br_f h3 ⟨i1, nm_r (e' := upd Ad d (nI c)) (by rw [c1]) ?_⟩))
  refine br_c (fun z => ?_) (fun z => ?_)
  · have e : vp_nar .boolean 0 = nI (cr_b y) := by unfold cr_b; rw [if_pos z]; exact ca_b0
    unfold wX_premise_47
    exact ⟨i1, nm_r (e' := upd An d (nI (cr_b y))) (by rw [c1, e]) (nm_r (nI_1 d) h)⟩
  · have e : vp_nar .boolean 1 = nI (cr_b y) := by unfold cr_b; rw [if_neg z]; exact ca_b1
    unfold wX_premise_47
    exact ⟨i1, nm_r (e' := upd An d (nI (cr_b y))) (by rw [c1, e]) (nm_r (nI_1 d) h)⟩
theorem cx_premise1 {post : Int32 → SX → Prop} (hx : ¬ ∃ c, c < 16 ∧ x = nI c) (h : post (-1) (fD, fC, fS, fU, Ah, As, Az, Ap, Ag, Ad, An, Ao, Av, Af, At, Aw, Ak)) : wpX_premise post (fD, fC, fS, fU, Ah, As, Az, Ap, Ag, Ad, An, Ao, Av, Af, At, Aw, Ak) x y := by
  unfold wpX_premise
  exact cx_nc hx (br_t rfl h)
theorem cx_premise2 {post : Int32 → SX → Prop} (hc : c < 16) (h : post (-2) (nI 3, fC, fS, fU, Ah, As, Az, Ap, Ag, Ad, An, Ao, Av, Af, At, Aw, Ak)) : wpX_premise post (nI 3, fC, fS, fU, Ah, As, Az, Ap, Ag, Ad, An, Ao, Av, Af, At, Aw, Ak) (nI c) y := by
  unfold wpX_premise
  exact cx_cl hc (br_f (by decide) (br_t rfl h))
theorem cy_premise {post : Int32 → SY → Prop} (hc : c < 16) (hd : d < 3) (h : post (nI (d + 1)) (nI (d + 1), gC, Bo, upd Bd d (nI c), upd Bn d (nI (cr_b y)), Bh, Bs, Bz, Bp, Bg, Bv, Bk)) : wpY_premise post (nI d, gC, Bo, Bd, Bn, Bh, Bs, Bz, Bp, Bg, Bv, Bk) (nI c) y := by
  have c1 : (nI d).toNatClampNeg = d := nI_clamp (by omega)
  have i1 : vp_in (nI d) 3 := vp_in_nI hd (by decide)
  unfold wpY_premise
  refine cy_cl hc (br_t rfl (br_t (nI_lt (b := 3) hd (by decide)) ⟨i1, nm_r (e' := upd Bd d (nI c)) (by rw [c1]) ?_⟩))
  refine br_c (fun z => ?_) (fun z => ?_)
  · have e : vp_nar .boolean 0 = nI (cr_b y) := by unfold cr_b; rw [if_pos z]; exact ca_b0
    unfold wY_premise_48
    exact ⟨i1, nm_r (e' := upd Bn d (nI (cr_b y))) (by rw [c1, e]) (nm_r (nI_1 d) h)⟩
  · have e : vp_nar .boolean 1 = nI (cr_b y) := by unfold cr_b; rw [if_neg z]; exact ca_b1
    unfold wY_premise_48
    exact ⟨i1, nm_r (e' := upd Bn d (nI (cr_b y))) (by rw [c1, e]) (nm_r (nI_1 d) h)⟩
theorem cy_premise1 {post : Int32 → SY → Prop} (hx : ¬ ∃ c, c < 16 ∧ x = nI c) (h : post (-1) (gD, gC, Bo, Bd, Bn, Bh, Bs, Bz, Bp, Bg, Bv, Bk)) : wpY_premise post (gD, gC, Bo, Bd, Bn, Bh, Bs, Bz, Bp, Bg, Bv, Bk) x y := by
  unfold wpY_premise
  exact cy_nc hx (br_f (by decide) h)
theorem cy_premise2 {post : Int32 → SY → Prop} (hc : c < 16) (h : post (-2) (nI 3, gC, Bo, Bd, Bn, Bh, Bs, Bz, Bp, Bg, Bv, Bk)) : wpY_premise post (nI 3, gC, Bo, Bd, Bn, Bh, Bs, Bz, Bp, Bg, Bv, Bk) (nI c) y := by
  unfold wpY_premise
  exact cy_cl hc (br_t rfl (br_f (by decide) h))
theorem i_vc_premise {k : Nat} {u : SX} {v : SY} (I : i_Rel k u v) (hk : k + 4 ≤ 2048) (v1 : Int32) (v2 : Int32) : wpX_premise (fun r u' => wpY_premise (fun r' v' => r' = r ∧ i_Rel (k + 4) u' v') v v1 v2) u v1 v2 := by
  refine cr_el (P := fun u v => wpX_premise (fun r u' => wpY_premise (fun r' v' => r' = r ∧ i_Rel (k + 4) u' v') v v1 v2) u v1 v2) ?_ I
  intro n d hd st sz pt ng ob dq dr fU Ah As Az Ap Ag Ad An Ao Av Af At Aw Ak Bo Bd Bn Bh Bs Bz Bp Bg Bv Bk G X Y
  have hn : n ≤ 20 := G.1.1
  by_cases hc : ∃ c, c < 16 ∧ v1 = nI c
  · obtain ⟨c, hc, rfl⟩ := hc
    have g2 := G.2.1
    by_cases h3 : d < 3
    · refine cx_premise hc h3 (cy_premise hc h3 ⟨rfl, cr_in (dq := cc_up dq d c) (dr := cc_up dr d (cr_b v2)) ⟨G.1, by omega, fun j hj => ?_, G.2.2.2⟩ ⟨X.1, ca_snoc X.2.1, ca_snoc X.2.2.1, X.2.2.2⟩ ⟨Y.1, ca_snoc Y.2.1, ca_snoc Y.2.2.1, Y.2.2.2⟩⟩)
      by_cases e : j = d
      · subst e
        rw [cc_up_e, cc_up_e]
        exact ⟨hc, cr_b_le v2⟩
      · rw [cc_up_n e, cc_up_n e]
        exact G.2.2.1 j (by omega)
    · have h3' : d = 3 := by omega
      subst h3'
      exact cx_premise2 hc (cy_premise2 hc ⟨rfl, cr_in G X Y⟩)
  · exact cx_premise1 hc (cy_premise1 hc ⟨rfl, cr_in G X Y⟩)
theorem i_vc_clear {k : Nat} {u : SX} {v : SY} (I : i_Rel k u v) (hk : k + 4 ≤ 2048) : wpX_clear (fun r u' => wpY_clear (fun r' v' => r' = r ∧ i_Rel (k + 4) u' v') v) u := by
  refine cr_el (P := fun u v => wpX_clear (fun r u' => wpY_clear (fun r' v' => r' = r ∧ i_Rel (k + 4) u' v') v) u) ?_ I
  intro n d hd st sz pt ng ob dq dr fU Ah As Az Ap Ag Ad An Ao Av Af At Aw Ak Bo Bd Bn Bh Bs Bz Bp Bg Bv Bk G X Y
  have hn : n ≤ 20 := G.1.1
  show i_Rel (k + 4) (nI 0, nI n, -1, fU, Ah, As, Az, Ap, Ag, Ad, An, Ao, Av, Af, At, Aw, Ak) (nI 0, nI n, Bo, Bd, Bn, Bh, Bs, Bz, Bp, Bg, Bv, Bk) |> fun P => nI d = nI d ∧ P
  exact ⟨rfl, cr_in (dq := dq) (dr := dr) ⟨G.1, Nat.zero_le _, fun j hj => absurd hj (Nat.not_lt_zero j), G.2.2.2⟩ ⟨X.1, fun j hj => absurd hj (Nat.not_lt_zero j), fun j hj => absurd hj (Nat.not_lt_zero j), X.2.2.2⟩ ⟨Y.1, fun j hj => absurd hj (Nat.not_lt_zero j), fun j hj => absurd hj (Nat.not_lt_zero j), Y.2.2.2⟩⟩
theorem cr_D_st {s : Nat} (D : cc_D n hd st sz pt ng) (h1 : 1 ≤ s) (h2 : s ≤ 100) : cc_D n hd (cc_up st r s) sz pt ng := by
  refine ⟨D.1, fun q hq => ?_⟩
  obtain ⟨d1, d2, d3, d4, d5⟩ := D.2 q hq
  refine ⟨d1, ?_, ?_, d4, d5⟩
  · unfold cc_up; split
    · exact h1
    · exact d2
  · unfold cc_up; split
    · exact h2
    · exact d3
theorem cr_TR_st {s : Nat} (R : cc_TR n Ah As Az Ap Ag hd st sz pt ng) : cc_TR n Ah (upd As r (nI s)) Az Ap Ag hd (cc_up st r s) sz pt ng := by
  intro q hq
  obtain ⟨r1, r2, r3⟩ := R q hq
  refine ⟨r1, ?_, r3⟩
  by_cases e : q = r
  · subst e
    rw [pk_us, cc_up_e]
  · rw [pk_un e, cc_up_n e]
    exact r2
theorem cx_strengthen1 {post : Int32 → SX → Prop} (hn : n ≤ 20) (hx : ¬ ∃ r, r < n ∧ x = nI r) (h : post (-1) (fD, nI n, fS, fU, Ah, As, Az, Ap, Ag, Ad, An, Ao, Av, Af, At, Aw, Ak)) : wpX_strengthen post (fD, nI n, fS, fU, Ah, As, Az, Ap, Ag, Ad, An, Ao, Av, Af, At, Aw, Ak) x y := by
  unfold wpX_strengthen
  exact cx_nr hn hx (br_t rfl h)
theorem cx_strengthen2 {post : Int32 → SX → Prop} (hn : n ≤ 20) (hr : r < n) (hy : y < 1 ∨ ¬ y ≤ 100) (h : post (-2) (fD, nI n, fS, fU, Ah, As, Az, Ap, Ag, Ad, An, Ao, Av, Af, At, Aw, Ak)) : wpX_strengthen post (fD, nI n, fS, fU, Ah, As, Az, Ap, Ag, Ad, An, Ao, Av, Af, At, Aw, Ak) (nI r) y := by
  unfold wpX_strengthen
  refine cx_ru hr hn (br_f (by decide) (br_c (fun _ => h) (fun z => br_f (hy.resolve_left z) h)))
theorem cx_strengthen {post : Int32 → SX → Prop} {s : Nat} (hn : n ≤ 20) (hr : r < n) (h1 : 1 ≤ s) (h2 : s ≤ 100) (R : cc_TR n Ah As Az Ap Ag hd st sz pt ng) (h : post (nI (st r)) (fD, nI n, fS, 0, Ah, upd As r (nI s), Az, Ap, Ag, Ad, An, Ao, Av, Af, At, Aw, Ak)) : wpX_strengthen post (fD, nI n, fS, fU, Ah, As, Az, Ap, Ag, Ad, An, Ao, Av, Af, At, Aw, Ak) (nI r) (nI s) := by
  have c1 : (nI r).toNatClampNeg = r := nI_clamp (by omega)
  have i1 : vp_in (nI r) 20 := vp_in_nI (by omega) (by decide)
  unfold wpX_strengthen
  exact cx_ru hr hn (br_f (by decide) (br_f (nI_nlt (b := 1) h1 (by omega)) (br_t (nI_le (b := 100) h2 (by decide)) ⟨i1, nm_r (e' := nI (st r)) (by rw [c1]; exact (R r hr).2.1) ⟨i1, nm_r (e' := upd As r (nI s)) (by rw [c1]) h⟩⟩)))
theorem cy_strengthen1 {post : Int32 → SY → Prop} (hn : n ≤ 20) (hx : ¬ ∃ r, r < n ∧ x = nI r) (h : post (-1) (gD, nI n, Bo, Bd, Bn, Bh, Bs, Bz, Bp, Bg, Bv, Bk)) : wpY_strengthen post (gD, nI n, Bo, Bd, Bn, Bh, Bs, Bz, Bp, Bg, Bv, Bk) x y := by
  unfold wpY_strengthen
  exact cy_nr hn hx (br_f (by decide) h)
theorem cy_strengthen2 {post : Int32 → SY → Prop} (hn : n ≤ 20) (hr : r < n) (hy : y < 1 ∨ ¬ y ≤ 100) (h : post (-2) (gD, nI n, Bo, Bd, Bn, Bh, Bs, Bz, Bp, Bg, Bv, Bk)) : wpY_strengthen post (gD, nI n, Bo, Bd, Bn, Bh, Bs, Bz, Bp, Bg, Bv, Bk) (nI r) y := by
  unfold wpY_strengthen
  refine cy_ru hr hn (br_t rfl (br_c (fun _ => h) (fun z => br_f (hy.resolve_left z) h)))
theorem cy_strengthen {post : Int32 → SY → Prop} {s : Nat} (hn : n ≤ 20) (hr : r < n) (h1 : 1 ≤ s) (h2 : s ≤ 100) (R : cc_TR n Bh Bs Bz Bp Bg hd st sz pt ng) (h : post (nI (st r)) (gD, nI n, Bo, Bd, Bn, Bh, upd Bs r (nI s), Bz, Bp, Bg, Bv, Bk)) : wpY_strengthen post (gD, nI n, Bo, Bd, Bn, Bh, Bs, Bz, Bp, Bg, Bv, Bk) (nI r) (nI s) := by
  have c1 : (nI r).toNatClampNeg = r := nI_clamp (by omega)
  have i1 : vp_in (nI r) 20 := vp_in_nI (by omega) (by decide)
  unfold wpY_strengthen
  exact cy_ru hr hn (br_t rfl (br_f (nI_nlt (b := 1) h1 (by omega)) (br_t (nI_le (b := 100) h2 (by decide)) ⟨i1, nm_r (e' := nI (st r)) (by rw [c1]; exact (R r hr).2.1) ⟨i1, nm_r (e' := upd Bs r (nI s)) (by rw [c1]) h⟩⟩)))
theorem i_vc_strengthen {k : Nat} {u : SX} {v : SY} (I : i_Rel k u v) (hk : k + 4 ≤ 2048) (v1 : Int32) (v2 : Int32) : wpX_strengthen (fun r u' => wpY_strengthen (fun r' v' => r' = r ∧ i_Rel (k + 4) u' v') v v1 v2) u v1 v2 := by
  refine cr_el (P := fun u v => wpX_strengthen (fun r u' => wpY_strengthen (fun r' v' => r' = r ∧ i_Rel (k + 4) u' v') v v1 v2) u v1 v2) ?_ I
  intro n d hd st sz pt ng ob dq dr fU Ah As Az Ap Ag Ad An Ao Av Af At Aw Ak Bo Bd Bn Bh Bs Bz Bp Bg Bv Bk G X Y
  have hn : n ≤ 20 := G.1.1
  by_cases hc : ∃ r, r < n ∧ v1 = nI r
  · obtain ⟨r, hr, rfl⟩ := hc
    by_cases a : v2 < 1
    · exact cx_strengthen2 hn hr (Or.inl a) (cy_strengthen2 hn hr (Or.inl a) ⟨rfl, cr_in G X Y⟩)
    · by_cases b : v2 ≤ 100
      · obtain ⟨s, s1, s2, rfl⟩ := cr_rg 1 100 (by decide) (by decide) a b
        exact cx_strengthen hn hr s1 s2 X.1 (cy_strengthen hn hr s1 s2 Y.1 ⟨rfl, cr_in (st := cc_up st r s) ⟨cr_D_st G.1 s1 s2, G.2⟩ ⟨cr_TR_st X.1, X.2.1, X.2.2.1, X.2.2.2.1, fun z => absurd rfl z⟩ ⟨cr_TR_st Y.1, Y.2⟩⟩)
      · exact cx_strengthen2 hn hr (Or.inr b) (cy_strengthen2 hn hr (Or.inr b) ⟨rfl, cr_in G X Y⟩)
  · exact cx_strengthen1 hn hc (cy_strengthen1 hn hc ⟨rfl, cr_in G X Y⟩)
theorem cx_observe1 {post : Int32 → SX → Prop} (hx : ¬ ∃ c, c < 16 ∧ x = nI c) (h : post (-1) (fD, fC, fS, fU, Ah, As, Az, Ap, Ag, Ad, An, Ao, Av, Af, At, Aw, Ak)) : wpX_observe post (fD, fC, fS, fU, Ah, As, Az, Ap, Ag, Ad, An, Ao, Av, Af, At, Aw, Ak) x y := by
  unfold wpX_observe
  exact cx_nc hx (br_t rfl h)
theorem cx_observe2 {post : Int32 → SX → Prop} (hc : c < 16) (hy : y < 0 ∨ ¬ y ≤ 100) (h : post (-2) (fD, fC, fS, fU, Ah, As, Az, Ap, Ag, Ad, An, Ao, Av, Af, At, Aw, Ak)) : wpX_observe post (fD, fC, fS, fU, Ah, As, Az, Ap, Ag, Ad, An, Ao, Av, Af, At, Aw, Ak) (nI c) y := by
  unfold wpX_observe
  refine cx_cl hc (br_f (by decide) (br_c (fun _ => h) (fun z => br_f (hy.resolve_left z) h)))
theorem cx_observe {post : Int32 → SX → Prop} {s : Nat} (hc : c < 16) (h2 : s ≤ 100) (TO : cc_TA 16 Ao ob) (h : post (nI (ob c)) (fD, fC, fS, 0, Ah, As, Az, Ap, Ag, Ad, An, upd Ao c (nI s), Av, Af, At, Aw, Ak)) : wpX_observe post (fD, fC, fS, fU, Ah, As, Az, Ap, Ag, Ad, An, Ao, Av, Af, At, Aw, Ak) (nI c) (nI s) := by
  have c1 : (nI c).toNatClampNeg = c := nI_clamp (by omega)
  have i1 : vp_in (nI c) 16 := vp_in_nI hc (by decide)
  unfold wpX_observe
  exact cx_cl hc (br_f (by decide) (br_f (nI_pos (by omega)) (br_t (nI_le (b := 100) h2 (by decide)) ⟨i1, nm_r (e' := nI (ob c)) (by rw [c1]; exact TO c hc) ⟨i1, nm_r (e' := upd Ao c (nI s)) (by rw [c1]) h⟩⟩)))
theorem cy_observe1 {post : Int32 → SY → Prop} (hx : ¬ ∃ c, c < 16 ∧ x = nI c) (h : post (-1) (gD, gC, Bo, Bd, Bn, Bh, Bs, Bz, Bp, Bg, Bv, Bk)) : wpY_observe post (gD, gC, Bo, Bd, Bn, Bh, Bs, Bz, Bp, Bg, Bv, Bk) x y := by
  unfold wpY_observe
  exact cy_nc hx (br_f (by decide) h)
theorem cy_observe2 {post : Int32 → SY → Prop} (hc : c < 16) (hy : y < 0 ∨ ¬ y ≤ 100) (h : post (-2) (gD, gC, Bo, Bd, Bn, Bh, Bs, Bz, Bp, Bg, Bv, Bk)) : wpY_observe post (gD, gC, Bo, Bd, Bn, Bh, Bs, Bz, Bp, Bg, Bv, Bk) (nI c) y := by
  unfold wpY_observe
  refine cy_cl hc (br_t rfl (br_c (fun _ => h) (fun z => br_f (hy.resolve_left z) h)))
theorem cy_observe {post : Int32 → SY → Prop} {s : Nat} (hc : c < 16) (h2 : s ≤ 100) (TO : cc_TA 16 Bo ob) (h : post (nI (ob c)) (gD, gC, upd Bo c (nI s), Bd, Bn, Bh, Bs, Bz, Bp, Bg, Bv, Bk)) : wpY_observe post (gD, gC, Bo, Bd, Bn, Bh, Bs, Bz, Bp, Bg, Bv, Bk) (nI c) (nI s) := by
  have c1 : (nI c).toNatClampNeg = c := nI_clamp (by omega)
  have i1 : vp_in (nI c) 16 := vp_in_nI hc (by decide)
  unfold wpY_observe
  exact cy_cl hc (br_t rfl (br_f (nI_pos (by omega)) (br_t (nI_le (b := 100) h2 (by decide)) ⟨i1, nm_r (e' := nI (ob c)) (by rw [c1]; exact TO c hc) ⟨i1, nm_r (e' := upd Bo c (nI s)) (by rw [c1]) h⟩⟩)))
theorem cr_O_up {s : Nat} (hO : ∀ c, c < 16 → ob c ≤ 100) (hs : s ≤ 100) : ∀ j, j < 16 → cc_up ob c s j ≤ 100 := by
  intro j hj
  unfold cc_up
  split
  · exact hs
  · exact hO j hj
theorem i_vc_observe {k : Nat} {u : SX} {v : SY} (I : i_Rel k u v) (hk : k + 4 ≤ 2048) (v1 : Int32) (v2 : Int32) : wpX_observe (fun r u' => wpY_observe (fun r' v' => r' = r ∧ i_Rel (k + 4) u' v') v v1 v2) u v1 v2 := by
  refine cr_el (P := fun u v => wpX_observe (fun r u' => wpY_observe (fun r' v' => r' = r ∧ i_Rel (k + 4) u' v') v v1 v2) u v1 v2) ?_ I
  intro n d hd st sz pt ng ob dq dr fU Ah As Az Ap Ag Ad An Ao Av Af At Aw Ak Bo Bd Bn Bh Bs Bz Bp Bg Bv Bk G X Y
  have hn : n ≤ 20 := G.1.1
  by_cases hc : ∃ c, c < 16 ∧ v1 = nI c
  · obtain ⟨c, hc, rfl⟩ := hc
    by_cases a : v2 < 0
    · exact cx_observe2 hc (Or.inl a) (cy_observe2 hc (Or.inl a) ⟨rfl, cr_in G X Y⟩)
    · by_cases b : v2 ≤ 100
      · obtain ⟨s, s1, s2, rfl⟩ := cr_rg 0 100 (by decide) (by decide) a b
        exact cx_observe hc s2 X.2.2.2.1 (cy_observe hc s2 Y.2.2.2 ⟨rfl, cr_in (ob := cc_up ob c s) ⟨G.1, G.2.1, G.2.2.1, cr_O_up G.2.2.2 s2⟩ ⟨X.1, X.2.1, X.2.2.1, ca_up X.2.2.2.1, fun z => absurd rfl z⟩ ⟨Y.1, Y.2.1, Y.2.2.1, ca_up Y.2.2.2⟩⟩)
      · exact cx_observe2 hc (Or.inr b) (cy_observe2 hc (Or.inr b) ⟨rfl, cr_in G X Y⟩)
  · exact cx_observe1 hc (cy_observe1 hc ⟨rfl, cr_in G X Y⟩)
theorem i_vc_rules {k : Nat} {u : SX} {v : SY} (I : i_Rel k u v) (hk : k + 4 ≤ 2048) : wpX_rules (fun r => wpY_rules (fun r' => r' = r ∧ i_Rel (k + 4) u v) v) u := by
  refine cr_el (P := fun u v => wpX_rules (fun r => wpY_rules (fun r' => r' = r ∧ i_Rel (k + 4) u v) v) u) ?_ I
  intro n d hd st sz pt ng ob dq dr fU Ah As Az Ap Ag Ad An Ao Av Af At Aw Ak Bo Bd Bn Bh Bs Bz Bp Bg Bv Bk G X Y
  have hn : n ≤ 20 := G.1.1
  exact ⟨rfl, cr_in G X Y⟩
theorem i_vc_headOf {k : Nat} {u : SX} {v : SY} (I : i_Rel k u v) (hk : k + 4 ≤ 2048) (v1 : Int32) : wpX_headOf (fun r => wpY_headOf (fun r' => r' = r ∧ i_Rel (k + 4) u v) v v1) u v1 := by
  refine cr_el (P := fun u v => wpX_headOf (fun r => wpY_headOf (fun r' => r' = r ∧ i_Rel (k + 4) u v) v v1) u v1) ?_ I
  intro n d hd st sz pt ng ob dq dr fU Ah As Az Ap Ag Ad An Ao Av Af At Aw Ak Bo Bd Bn Bh Bs Bz Bp Bg Bv Bk G X Y
  have hn : n ≤ 20 := G.1.1
  unfold wpX_headOf
  by_cases hc : ∃ r, r < n ∧ v1 = nI r
  · obtain ⟨r, hr, rfl⟩ := hc
    have c1 : (nI r).toNatClampNeg = r := nI_clamp (by omega)
    have i1 : vp_in (nI r) 20 := vp_in_nI (by omega) (by decide)
    refine cx_ru hr hn (br_f (by decide) ⟨i1, ?_⟩)
    unfold wpY_headOf
    refine cy_ru hr hn (br_t rfl ⟨i1, ?_, cr_in G X Y⟩)
    rw [c1, (X.1 r hr).1, (Y.1 r hr).1]
  · refine cx_nr hn hc (br_t rfl ?_)
    unfold wpY_headOf
    exact cy_nr hn hc (br_f (by decide) ⟨rfl, cr_in G X Y⟩)
theorem i_vc_observed {k : Nat} {u : SX} {v : SY} (I : i_Rel k u v) (hk : k + 4 ≤ 2048) (v1 : Int32) : wpX_observed (fun r => wpY_observed (fun r' => r' = r ∧ i_Rel (k + 4) u v) v v1) u v1 := by
  refine cr_el (P := fun u v => wpX_observed (fun r => wpY_observed (fun r' => r' = r ∧ i_Rel (k + 4) u v) v v1) u v1) ?_ I
  intro n d hd st sz pt ng ob dq dr fU Ah As Az Ap Ag Ad An Ao Av Af At Aw Ak Bo Bd Bn Bh Bs Bz Bp Bg Bv Bk G X Y
  have hn : n ≤ 20 := G.1.1
  unfold wpX_observed
  by_cases hc : ∃ c, c < 16 ∧ v1 = nI c
  · obtain ⟨c, hc, rfl⟩ := hc
    have c1 : (nI c).toNatClampNeg = c := nI_clamp (by omega)
    have i1 : vp_in (nI c) 16 := vp_in_nI hc (by decide)
    refine cx_cl hc (br_f (by decide) ⟨i1, ?_⟩)
    unfold wpY_observed
    refine cy_cl hc (br_t rfl ⟨i1, ?_, cr_in G X Y⟩)
    rw [c1, X.2.2.2.1 c hc, Y.2.2.2 c hc]
  · refine cx_nc hc (br_t rfl ?_)
    unfold wpY_observed
    exact cy_nc hc (br_f (by decide) ⟨rfl, cr_in G X Y⟩)
end
end
section
/-! rule -/
theorem pk_sub_toInt {a b : Nat} (ha : a < 2 ^ 30) (hb : b < 2 ^ 30) : (nI a - nI b).toInt = (a : Int) - b := by
  rw [Int32.toInt_sub, nI_toInt (by omega), nI_toInt (by omega)]
  exact Int.bmod_eq_of_le (by omega) (by omega)
theorem ca_le1 {a b : Nat} (ha : a < 2 ^ 30) (hb : b < 2 ^ 30) : nI a ≤ nI b - 1 ↔ a + 1 ≤ b := by
  have e : (nI b - nI 1).toInt = (b : Int) - (1 : Nat) := pk_sub_toInt hb (by decide)
  have e2 : (nI b - 1).toInt = (b : Int) - (1 : Nat) := e
  rw [Int32.le_iff_toInt_le, e2, nI_toInt (by omega)]
  omega
/-- the cells below 3 n as they were, behind them the first k of q, as far as d -/
def cr_W (A A' : Nat → Int32) (n k d : Nat) (q : Nat → Nat) : Prop := (∀ j, j < 3 * n → A' j = A j) ∧ ∀ i, i < k → i < d → A' (3 * n + i) = nI (q i)
theorem cr_W_0 {A : Nat → Int32} {n d : Nat} {q : Nat → Nat} : cr_W A A n 0 d q := ⟨fun _ _ => rfl, fun i hi => absurd hi (Nat.not_lt_zero i)⟩
theorem cr_W_s {A A' : Nat → Int32} {n k d : Nat} {q : Nat → Nat} {x : Int32} (h : cr_W A A' n k d q) (hx : k < d → x = nI (q k)) : cr_W A (upd A' (3 * n + k) x) n (k + 1) d q := by
  refine ⟨fun j hj => ?_, fun i hi hd => ?_⟩
  · rw [pk_un (by omega)]
    exact h.1 j hj
  · by_cases e : i = k
    · subst e
      rw [pk_us]
      exact hx hd
    · rw [pk_un (by omega)]
      exact h.2 i (by omega) hd
/-- the premises of the rules and behind them the draft's -/
def cr_cat (pt dq : Nat → Nat) (n : Nat) : Nat → Nat := fun j => if j < 3 * n then pt j else dq (j - 3 * n)
theorem cr_cat_l {pt dq : Nat → Nat} {n j : Nat} (h : j < 3 * n) : cr_cat pt dq n j = pt j := if_pos h
theorem cr_cat_r {pt dq : Nat → Nat} {n i : Nat} : cr_cat pt dq n (3 * n + i) = dq i := by
  have e : cr_cat pt dq n (3 * n + i) = dq (3 * n + i - 3 * n) := if_neg (by omega)
  rw [e, Nat.add_sub_cancel_left]
section
variable {st sz pt ng hd ob dq dr : Nat → Nat} {n d k c r h s : Nat} {x y : Int32} {fD fC fS fU : Int32} {Ah As Az Ap Ag Ad An Ao Av Af At Aw Ak : Nat → Int32} {gD gC : Int32} {Bo Bd Bn Bh Bs Bz Bp Bg Bv Bk : Nat → Int32}
theorem cr_D_new (D : cc_D n hd st sz pt ng) (hn : n < 20) (hh : h < 16) (h1 : 1 ≤ s) (h2 : s ≤ 100) (h3 : d ≤ 3) (hq : ∀ k, k < d → dq k < 16 ∧ dr k ≤ 1) (hl : ∀ k, k < d → dq k / 4 + dr k ≤ h / 4) :
    cc_D (n + 1) (cc_up hd n h) (cc_up st n s) (cc_up sz n d) (cr_cat pt dq n) (cr_cat ng dr n) := by
  refine ⟨hn, fun q hq' => ?_⟩
  by_cases e : q = n
  · subst e
    rw [cc_up_e, cc_up_e, cc_up_e]
    refine ⟨hh, h1, h2, h3, fun k hk => ?_⟩
    rw [cr_cat_r, cr_cat_r]
    exact ⟨(hq k hk).1, (hq k hk).2, hl k hk⟩
  · obtain ⟨d1, d2, d3, d4, d5⟩ := D.2 q (by omega)
    rw [cc_up_n e, cc_up_n e, cc_up_n e]
    refine ⟨d1, d2, d3, d4, fun k hk => ?_⟩
    rw [cr_cat_l (by omega), cr_cat_l (by omega)]
    exact d5 k hk
theorem cr_TR_new {Ap' Ag' : Nat → Int32} (D : cc_D n hd st sz pt ng) (R : cc_TR n Ah As Az Ap Ag hd st sz pt ng) (hp : cr_W Ap Ap' n k d dq) (hg : cr_W Ag Ag' n k d dr) (hk : d ≤ k) :
    cc_TR (n + 1) (upd Ah n (nI h)) (upd As n (nI s)) (upd Az n (nI d)) Ap' Ag' (cc_up hd n h) (cc_up st n s) (cc_up sz n d) (cr_cat pt dq n) (cr_cat ng dr n) := by
  intro q hq
  by_cases e : q = n
  · subst e
    rw [cc_up_e, cc_up_e, cc_up_e, pk_us, pk_us, pk_us]
    refine ⟨rfl, rfl, rfl, fun i hi => ?_⟩
    rw [cr_cat_r, cr_cat_r]
    exact ⟨hp.2 i (by omega) hi, hg.2 i (by omega) hi⟩
  · obtain ⟨d1, d2, d3, d4, d5⟩ := D.2 q (by omega)
    obtain ⟨r1, r2, r3, r4⟩ := R q (by omega)
    rw [cc_up_n e, cc_up_n e, cc_up_n e, pk_un e, pk_un e, pk_un e]
    refine ⟨r1, r2, r3, fun i hi => ?_⟩
    rw [cr_cat_l (by omega), cr_cat_l (by omega), hp.1 _ (by omega), hg.1 _ (by omega)]
    exact r4 i hi
theorem cx_rule124 {post : Int32 → SX → Prop} {Ap0 Ag0 : Nat → Int32} (hn : n < 20) (h3 : d ≤ 3) (hb : ∀ k, k < d → dr k ≤ 1) (TQ : cc_TA d Ad dq) (TN : cc_TA d An dr)
    (H : ∀ Ap Ag : Nat → Int32, cr_W Ap0 Ap n d d dq → cr_W Ag0 Ag n d d dr → post (nI n) (nI 0, nI (n + 1), fS, 0, Ah, As, Az, Ap, Ag, Ad, An, Ao, Av, Af, At, Aw, Ak)) :
    ∀ (m k : Nat) (Ap Ag : Nat → Int32), k + m = d → cr_W Ap0 Ap n k d dq → cr_W Ag0 Ag n k d dr → wX_rule_124 post (nI d) (nI n) fS fU (m + 1) (nI k) Ah As Az Ap Ag Ad An Ao Av Af At Aw Ak := by
  intro m
  induction m with
  | zero =>
    intro k Ap Ag hk hp hg
    have hk' : k = d := by omega
    subst hk'
    rw [wX_rule_124]
    refine br_t (nI_le (Nat.le_refl _) (by omega)) (nm_r (nI_1 n) ?_)
    rw [nI_pred]
    exact H Ap Ag hp hg
  | succ m ih =>
    intro k Ap Ag hk hp hg
    have hk' : k < d := by omega
    have c1 : (nI k).toNatClampNeg = k := nI_clamp (by omega)
    have i1 : vp_in (nI k) 3 := vp_in_nI (by omega) (by decide)
    have ci : (3 * nI n + nI k : Int32) = nI (3 * n + k) := ca_3 n k
    have cc : (nI (3 * n + k)).toNatClampNeg = 3 * n + k := nI_clamp (by omega)
    have vi : vp_in (3 * nI n + nI k) 60 := by rw [ci]; exact vp_in_nI (by omega) (by decide)
    rw [wX_rule_124]
    refine br_f (nI_ge hk' (by omega)) ⟨i1, vi, nm_r (e' := upd Ap (3 * n + k) (nI (dq k))) (by rw [ci, cc, c1, TQ k hk']) ⟨i1, vi, nm_r (e' := upd Ag (3 * n + k) (nI (dr k))) (by rw [ci, cc, c1, TN k hk', ca_bn (hb k hk')]) (nm_r (nI_1 k) (ih (k + 1) _ _ (by omega) (cr_W_s hp fun _ => rfl) (cr_W_s hg fun _ => rfl)))⟩⟩
/-- the draft fits the head -/
def cr_fit (dq dr : Nat → Nat) (h k : Nat) : Prop := ∀ j, j < k → dq j / 4 + dr j ≤ h / 4
theorem cr_fit_s (hf : cr_fit dq dr h k) (hk : dq k / 4 + dr k ≤ h / 4) : cr_fit dq dr h (k + 1) := by
  intro j hj
  by_cases e : j = k
  · subst e; exact hk
  · exact hf j (by omega)
theorem cx_rule53 {post : Int32 → SX → Prop} {J : Int32 → Prop} {x2 z0 : Int32} (hk : k < d) (h3 : d ≤ 3) (hq : dq k < 16) (TQ : cc_TA d Ad dq) (P : Prop) (hz : nI (dq k / 4) ≤ z0 ↔ P) (HJ : P → J (nI (k + 1))) (Hb : ¬ P → post (-3) (fD, fC, fS, fU, Ah, As, Az, Ap, Ag, Ad, An, Ao, Av, Af, At, Aw, Ak)) :
    wX_rule_53 post J (nI h) x2 (nI k) z0 fD fC fS fU Ah As Az Ap Ag Ad An Ao Av Af At Aw Ak := by
  have c1 : (nI k).toNatClampNeg = k := nI_clamp (by omega)
  unfold wX_rule_53
  refine ⟨vp_in_nI (by omega) (by decide), ?_⟩
  rw [c1, TQ k hk, ca_sh (by omega)]
  exact br_c (fun z => nm_r (nI_1 k) (HJ (hz.mp z))) (fun z => Hb (fun p => z (hz.mpr p)))
theorem cx_rule25 {post : Int32 → SX → Prop} {x2 : Int32} (h3 : d ≤ 3) (hh : h < 16) (hq : ∀ k, k < d → dq k < 16 ∧ dr k ≤ 1) (TQ : cc_TA d Ad dq) (TN : cc_TA d An dr)
    (Hb : ¬ cr_fit dq dr h d → post (-3) (nI d, fC, fS, fU, Ah, As, Az, Ap, Ag, Ad, An, Ao, Av, Af, At, Aw, Ak))
    (Hk : cr_fit dq dr h d → ∀ n, nI d ≤ nI d → wX_rule_25 post (nI h) x2 (nI d) fC fS fU Ah As Az Ap Ag Ad An Ao Av Af At Aw Ak (n + 1) (nI d)) :
    ∀ m k, k + m = d → cr_fit dq dr h k → wX_rule_25 post (nI h) x2 (nI d) fC fS fU Ah As Az Ap Ag Ad An Ao Av Af At Aw Ak (m + 1) (nI k) := by
  intro m
  induction m with
  | zero =>
    intro k hk hf
    have hk' : k = d := by omega
    subst hk'
    exact Hk hf 0 (nI_le (Nat.le_refl _) (by omega))
  | succ m ih =>
    intro k hk hf
    have hk' : k < d := by omega
    obtain ⟨q1, q2⟩ := hq k hk'
    have c1 : (nI k).toNatClampNeg = k := nI_clamp (by omega)
    have i1 : vp_in (nI k) 3 := vp_in_nI (by omega) (by decide)
    rw [wX_rule_25]
    refine br_f (nI_ge hk' (by omega)) ⟨i1, ?_⟩
    rw [c1, TN k hk', ca_sh (by omega)]
    refine pk_eq (dr k) 0 (fun z => ?_) (fun z => ?_) rfl rfl (by omega) (by omega)
    · refine cx_rule53 hk' h3 q1 TQ (dq k / 4 ≤ h / 4) (nI_leI (by omega) (by omega)) (fun p => ih (k + 1) (by omega) (cr_fit_s hf (by omega))) (fun p => Hb fun hf' => p ?_)
      have := hf' k hk'
      omega
    · refine cx_rule53 hk' h3 q1 TQ (dq k / 4 + 1 ≤ h / 4) (ca_le1 (by omega) (by omega)) (fun p => ih (k + 1) (by omega) (cr_fit_s hf (by omega))) (fun p => Hb fun hf' => p ?_)
      have := hf' k hk'
      omega
theorem cx_rule1 {post : Int32 → SX → Prop} (hx : ¬ ∃ c, c < 16 ∧ x = nI c) (h : post (-1) (fD, fC, fS, fU, Ah, As, Az, Ap, Ag, Ad, An, Ao, Av, Af, At, Aw, Ak)) : wpX_rule post (fD, fC, fS, fU, Ah, As, Az, Ap, Ag, Ad, An, Ao, Av, Af, At, Aw, Ak) x y := by
  unfold wpX_rule
  exact cx_nc hx (br_t rfl h)
theorem cx_rule2 {post : Int32 → SX → Prop} (hc : c < 16) (hy : y < 1 ∨ ¬ y ≤ 100) (h : post (-2) (fD, fC, fS, fU, Ah, As, Az, Ap, Ag, Ad, An, Ao, Av, Af, At, Aw, Ak)) : wpX_rule post (fD, fC, fS, fU, Ah, As, Az, Ap, Ag, Ad, An, Ao, Av, Af, At, Aw, Ak) (nI c) y := by
  unfold wpX_rule
  refine cx_cl hc (br_f (by decide) (br_c (fun _ => h) (fun z => br_f (hy.resolve_left z) h)))
theorem cx_rule {post : Int32 → SX → Prop} (hn : n ≤ 20) (h3 : d ≤ 3) (hh : h < 16) (h1 : 1 ≤ s) (h2 : s ≤ 100) (hq : ∀ k, k < d → dq k < 16 ∧ dr k ≤ 1) (TQ : cc_TA d Ad dq) (TN : cc_TA d An dr)
    (Hb : ¬ cr_fit dq dr h d → post (-3) (nI d, nI n, fS, fU, Ah, As, Az, Ap, Ag, Ad, An, Ao, Av, Af, At, Aw, Ak))
    (H4 : cr_fit dq dr h d → n = 20 → post (-4) (nI d, nI n, fS, fU, Ah, As, Az, Ap, Ag, Ad, An, Ao, Av, Af, At, Aw, Ak))
    (H : cr_fit dq dr h d → n < 20 → ∀ Ap' Ag' : Nat → Int32, cr_W Ap Ap' n d d dq → cr_W Ag Ag' n d d dr → post (nI n) (nI 0, nI (n + 1), fS, 0, upd Ah n (nI h), upd As n (nI s), upd Az n (nI d), Ap', Ag', Ad, An, Ao, Av, Af, At, Aw, Ak)) :
    wpX_rule post (nI d, nI n, fS, fU, Ah, As, Az, Ap, Ag, Ad, An, Ao, Av, Af, At, Aw, Ak) (nI h) (nI s) := by
  unfold wpX_rule
  refine cx_cl hh (br_f (by decide) (br_f (nI_nlt (b := 1) h1 (by omega)) (br_t (nI_le (b := 100) h2 (by decide)) ⟨d + 1, ?_⟩)))
  refine cx_rule25 h3 hh hq TQ TN Hb (fun hf m hle => ?_) d 0 (Nat.zero_add d) (fun j hj => absurd hj (Nat.not_lt_zero j))
  rw [wX_rule_25]
  refine br_t hle (pk_eq n 20 (fun z => H4 hf z) (fun z => ?_) rfl rfl (by omega) (by omega))
  have c1 : (nI n).toNatClampNeg = n := nI_clamp (by omega)
  have i1 : vp_in (nI n) 20 := vp_in_nI (by omega) (by decide)
  refine ⟨i1, nm_r (e' := upd Ah n (nI h)) (by rw [c1]) ⟨i1, nm_r (e' := upd As n (nI s)) (by rw [c1]) ⟨i1, nm_r (e' := upd Az n (nI d)) (by rw [c1]) ⟨d + 1, ?_⟩⟩⟩⟩
  exact cx_rule124 (by omega) h3 (fun k hk => (hq k hk).2) TQ TN (fun Ap' Ag' hp hg => H hf (by omega) Ap' Ag' hp hg) d 0 Ap Ag (Nat.zero_add d) cr_W_0 cr_W_0
theorem cy_rule124 {post : Int32 → SY → Prop} {Bp0 Bg0 : Nat → Int32} (hn : n < 20) (h3 : d ≤ 3) (hb : ∀ k, k < d → dr k ≤ 1) (TQ : cc_TA d Bd dq) (TN : cc_TA d Bn dr)
    (H : ∀ Bp Bg : Nat → Int32, cr_W Bp0 Bp n 3 d dq → cr_W Bg0 Bg n 3 d dr → post (nI n) (nI 0, nI (n + 1), Bo, Bd, Bn, Bh, Bs, Bz, Bp, Bg, Bv, Bk)) :
    ∀ (m k : Nat) (Bp Bg : Nat → Int32), k + m = 3 → cr_W Bp0 Bp n k d dq → cr_W Bg0 Bg n k d dr → wY_rule_124 post (nI n) (nI d) (nI n) (m + 1) (nI k) Bo Bd Bn Bh Bs Bz Bp Bg Bv Bk := by
  intro m
  induction m with
  | zero =>
    intro k Bp Bg hk hp hg
    have hk' : k = 3 := by omega
    subst hk'
    rw [wY_rule_124]
    exact br_t (nI_le (a := 3) (b := 3) (Nat.le_refl _) (by decide)) (nm_r (nI_1 n) (H Bp Bg hp hg))
  | succ m ih =>
    intro k Bp Bg hk hp hg
    have c1 : (nI k).toNatClampNeg = k := nI_clamp (by omega)
    have i1 : vp_in (nI k) 3 := vp_in_nI (by omega) (by decide)
    have ci : (3 * nI n + nI k : Int32) = nI (3 * n + k) := ca_3 n k
    have cc : (nI (3 * n + k)).toNatClampNeg = 3 * n + k := nI_clamp (by omega)
    have vi : vp_in (3 * nI n + nI k) 60 := by rw [ci]; exact vp_in_nI (by omega) (by decide)
    rw [wY_rule_124]
    refine br_f (nI_ge (b := 3) (by omega) (by decide)) ⟨i1, vi, nm_r (e' := upd Bp (3 * n + k) (Bd k)) (by rw [ci, cc, c1]) ⟨i1, vi, nm_r (e' := upd Bg (3 * n + k) (vp_nar .boolean (Bn k))) (by rw [ci, cc, c1]) (nm_r (nI_1 k) (ih (k + 1) _ _ (by omega) (cr_W_s hp fun z => TQ k z) (cr_W_s hg fun z => ?_)))⟩⟩
    rw [TN k z, ca_bn (hb k z)]
theorem cy_rule83 {post : Int32 → SY → Prop} (hn : n ≤ 20) (h3 : d ≤ 3) (hq : ∀ k, k < d → dq k < 16 ∧ dr k ≤ 1) (TQ : cc_TA d Bd dq) (TN : cc_TA d Bn dr)
    (H4 : n = 20 → post (-4) (nI d, nI n, Bo, Bd, Bn, Bh, Bs, Bz, Bp, Bg, Bv, Bk))
    (H : n < 20 → ∀ Bp' Bg' : Nat → Int32, cr_W Bp Bp' n 3 d dq → cr_W Bg Bg' n 3 d dr → post (nI n) (nI 0, nI (n + 1), Bo, Bd, Bn, upd Bh n (nI h), upd Bs n (nI s), upd Bz n (nI d), Bp', Bg', Bv, Bk)) :
    wY_rule_83 post (nI h) (nI s) (nI d) (nI n) Bo Bd Bn Bh Bs Bz Bp Bg Bv Bk := by
  unfold wY_rule_83
  refine pk_lt n 20 (fun z => ?_) (fun z => H4 (by omega)) rfl rfl (by omega) (by omega)
  have c1 : (nI n).toNatClampNeg = n := nI_clamp (by omega)
  have i1 : vp_in (nI n) 20 := vp_in_nI (by omega) (by decide)
  refine ⟨i1, nm_r (e' := upd Bh n (nI h)) (by rw [c1]) ⟨i1, nm_r (e' := upd Bs n (nI s)) (by rw [c1]) ⟨i1, nm_r (e' := upd Bz n (nI d)) (by rw [c1]) ⟨3 + 1, ?_⟩⟩⟩⟩
  exact cy_rule124 z h3 (fun k hk => (hq k hk).2) TQ TN (fun Bp' Bg' hp hg => H z Bp' Bg' hp hg) 3 0 Bp Bg rfl cr_W_0 cr_W_0
theorem cy_rule26 {post : Int32 → SY → Prop} {x2 : Int32} (h3 : d ≤ 3) (hh : h < 16) (hq : ∀ k, k < d → dq k < 16 ∧ dr k ≤ 1) (TQ : cc_TA d Bd dq) (TN : cc_TA d Bn dr)
    (Hb : ¬ cr_fit dq dr h d → post (-3) (nI d, gC, Bo, Bd, Bn, Bh, Bs, Bz, Bp, Bg, Bv, Bk))
    (Hk : cr_fit dq dr h d → wY_rule_83 post (nI h) x2 (nI d) gC Bo Bd Bn Bh Bs Bz Bp Bg Bv Bk) :
    ∀ m k, k + m = d → cr_fit dq dr h k → wY_rule_26 post (nI h) x2 (nI d) gC Bo Bd Bn Bh Bs Bz Bp Bg Bv Bk (m + 1) (nI k) := by
  intro m
  induction m with
  | zero =>
    intro k hk hf
    have hk' : k = d := by omega
    subst hk'
    rw [wY_rule_26]
    exact br_t (nI_le (Nat.le_refl _) (by omega)) (Hk hf)
  | succ m ih =>
    intro k hk hf
    have hk' : k < d := by omega
    obtain ⟨q1, q2⟩ := hq k hk'
    have c1 : (nI k).toNatClampNeg = k := nI_clamp (by omega)
    have i1 : vp_in (nI k) 3 := vp_in_nI (by omega) (by decide)
    have e1 : Bd (nI k).toNatClampNeg / 4 = nI (dq k / 4) := by rw [c1, TQ k hk', ca_d4 (by omega)]
    rw [wY_rule_26]
    refine br_f (nI_ge hk' (by omega)) (br_f (nI_ge (b := 3) (by omega) (by decide)) ⟨i1, by decide, nm_r e1 ⟨by decide, ?_⟩⟩)
    rw [ca_d4 (t := h) (by omega)]
    refine pk_lt (h / 4) (dq k / 4) (fun z => Hb fun hf' => ?_) (fun z => ⟨i1, ?_⟩) rfl rfl (by omega) (by omega)
    · have := hf' k hk'
      omega
    · rw [c1, TN k hk']
      refine pk_eq (dr k) 0 (fun w => nm_r (nI_1 k) (ih (k + 1) (by omega) (cr_fit_s hf (by omega)))) (fun w => ⟨by decide, ?_⟩) rfl rfl (by omega) (by omega)
      refine pk_eq (dq k / 4) (h / 4) (fun e => Hb fun hf' => ?_) (fun e => nm_r (nI_1 k) (ih (k + 1) (by omega) (cr_fit_s hf (by omega)))) rfl rfl (by omega) (by omega)
      have := hf' k hk'
      omega
theorem cy_rule1 {post : Int32 → SY → Prop} (hx : ¬ ∃ c, c < 16 ∧ x = nI c) (h : post (-1) (gD, gC, Bo, Bd, Bn, Bh, Bs, Bz, Bp, Bg, Bv, Bk)) : wpY_rule post (gD, gC, Bo, Bd, Bn, Bh, Bs, Bz, Bp, Bg, Bv, Bk) x y := by
  unfold wpY_rule
  exact cy_nc hx (br_f (by decide) h)
theorem cy_rule2 {post : Int32 → SY → Prop} (hc : c < 16) (hy : y < 1 ∨ ¬ y ≤ 100) (h : post (-2) (gD, gC, Bo, Bd, Bn, Bh, Bs, Bz, Bp, Bg, Bv, Bk)) : wpY_rule post (gD, gC, Bo, Bd, Bn, Bh, Bs, Bz, Bp, Bg, Bv, Bk) (nI c) y := by
  unfold wpY_rule
  refine cy_cl hc (br_t rfl (br_c (fun _ => h) (fun z => br_f (hy.resolve_left z) h)))
theorem cy_rule {post : Int32 → SY → Prop} (hn : n ≤ 20) (h3 : d ≤ 3) (hh : h < 16) (h1 : 1 ≤ s) (h2 : s ≤ 100) (hq : ∀ k, k < d → dq k < 16 ∧ dr k ≤ 1) (TQ : cc_TA d Bd dq) (TN : cc_TA d Bn dr)
    (Hb : ¬ cr_fit dq dr h d → post (-3) (nI d, nI n, Bo, Bd, Bn, Bh, Bs, Bz, Bp, Bg, Bv, Bk))
    (H4 : cr_fit dq dr h d → n = 20 → post (-4) (nI d, nI n, Bo, Bd, Bn, Bh, Bs, Bz, Bp, Bg, Bv, Bk))
    (H : cr_fit dq dr h d → n < 20 → ∀ Bp' Bg' : Nat → Int32, cr_W Bp Bp' n 3 d dq → cr_W Bg Bg' n 3 d dr → post (nI n) (nI 0, nI (n + 1), Bo, Bd, Bn, upd Bh n (nI h), upd Bs n (nI s), upd Bz n (nI d), Bp', Bg', Bv, Bk)) :
    wpY_rule post (nI d, nI n, Bo, Bd, Bn, Bh, Bs, Bz, Bp, Bg, Bv, Bk) (nI h) (nI s) := by
  unfold wpY_rule
  refine cy_cl hh (br_t rfl (br_f (nI_nlt (b := 1) h1 (by omega)) (br_t (nI_le (b := 100) h2 (by decide)) ⟨d + 1, ?_⟩)))
  exact cy_rule26 h3 hh hq TQ TN Hb (fun hf => cy_rule83 hn h3 hq TQ TN (fun z => H4 hf z) (fun z => H hf z)) d 0 (Nat.zero_add d) (fun j hj => absurd hj (Nat.not_lt_zero j))
theorem i_vc_rule {k : Nat} {u : SX} {v : SY} (I : i_Rel k u v) (hk : k + 4 ≤ 2048) (v1 : Int32) (v2 : Int32) : wpX_rule (fun r u' => wpY_rule (fun r' v' => r' = r ∧ i_Rel (k + 4) u' v') v v1 v2) u v1 v2 := by
  refine cr_el (P := fun u v => wpX_rule (fun r u' => wpY_rule (fun r' v' => r' = r ∧ i_Rel (k + 4) u' v') v v1 v2) u v1 v2) ?_ I
  intro n d hd st sz pt ng ob dq dr fU Ah As Az Ap Ag Ad An Ao Av Af At Aw Ak Bo Bd Bn Bh Bs Bz Bp Bg Bv Bk G X Y
  have hn : n ≤ 20 := G.1.1
  by_cases hc : ∃ c, c < 16 ∧ v1 = nI c
  · obtain ⟨h, hh, rfl⟩ := hc
    by_cases a : v2 < 1
    · exact cx_rule2 hh (Or.inl a) (cy_rule2 hh (Or.inl a) ⟨rfl, cr_in G X Y⟩)
    · by_cases b : v2 ≤ 100
      · obtain ⟨s, s1, s2, rfl⟩ := cr_rg 1 100 (by decide) (by decide) a b
        refine cx_rule hn G.2.1 hh s1 s2 G.2.2.1 X.2.1 X.2.2.1 (fun nf => ?_) (fun hf h20 => ?_) (fun hf h20 Ap' Ag' hp hg => ?_)
        · exact cy_rule hn G.2.1 hh s1 s2 G.2.2.1 Y.2.1 Y.2.2.1 (fun _ => ⟨rfl, cr_in G X Y⟩) (fun hf => absurd hf nf) (fun hf => absurd hf nf)
        · exact cy_rule hn G.2.1 hh s1 s2 G.2.2.1 Y.2.1 Y.2.2.1 (fun nf => absurd hf nf) (fun _ _ => ⟨rfl, cr_in G X Y⟩) (fun _ z => absurd h20 (by omega))
        · refine cy_rule hn G.2.1 hh s1 s2 G.2.2.1 Y.2.1 Y.2.2.1 (fun nf => absurd hf nf) (fun _ z => absurd z (by omega)) (fun _ _ Bp' Bg' kp kg => ⟨rfl, ?_⟩)
          exact cr_in (dq := dq) (dr := dr) ⟨cr_D_new G.1 h20 hh s1 s2 G.2.1 G.2.2.1 hf, Nat.zero_le _, fun j hj => absurd hj (Nat.not_lt_zero j), G.2.2.2⟩
            ⟨cr_TR_new G.1 X.1 hp hg (Nat.le_refl _), fun j hj => absurd hj (Nat.not_lt_zero j), fun j hj => absurd hj (Nat.not_lt_zero j), X.2.2.2.1, fun z => absurd rfl z⟩
            ⟨cr_TR_new G.1 Y.1 kp kg G.2.1, fun j hj => absurd hj (Nat.not_lt_zero j), fun j hj => absurd hj (Nat.not_lt_zero j), Y.2.2.2⟩
      · exact cx_rule2 hh (Or.inr b) (cy_rule2 hh (Or.inr b) ⟨rfl, cr_in G X Y⟩)
  · exact cx_rule1 hc (cy_rule1 hc ⟨rfl, cr_in G X Y⟩)
end
end
section
/-! remove -/
abbrev cx_TK : Type := Int32 → (Nat → Int32) → (Nat → Int32) → (Nat → Int32) → (Nat → Int32) → (Nat → Int32) → (Nat → Int32) → (Nat → Int32) → (Nat → Int32) → (Nat → Int32) → (Nat → Int32) → (Nat → Int32) → (Nat → Int32) → (Nat → Int32) → Prop
abbrev cy_TK : Type := Int32 → (Nat → Int32) → (Nat → Int32) → (Nat → Int32) → (Nat → Int32) → (Nat → Int32) → (Nat → Int32) → (Nat → Int32) → (Nat → Int32) → (Nat → Int32) → (Nat → Int32) → Prop
/-- the cells from i on, below p, hold what stood behind them -/
def cr_S (A A' : Nat → Int32) (i p : Nat) : Prop := ∀ q, A' q = if i ≤ q ∧ q < p then A (q + 1) else A q
/-- the same by threes, for the premises -/
def cr_P (φ : Int32 → Int32) (A A' : Nat → Int32) (i x : Nat) : Prop := ∀ j, A' j = if 3 * i ≤ j ∧ j < x then φ (A (j + 3)) else A j
theorem cr_S_0 {A : Nat → Int32} {i : Nat} : cr_S A A i i := fun q => (if_neg (by omega)).symm
theorem cr_S_r {A A' : Nat → Int32} {i p : Nat} (h : cr_S A A' i p) : A' (p + 1) = A (p + 1) := by rw [h, if_neg (by omega)]
theorem cr_S_s {A A' : Nat → Int32} {i p : Nat} (h : cr_S A A' i p) (hi : i ≤ p) : cr_S A (upd A' p (A (p + 1))) i (p + 1) := by
  intro j
  by_cases e : j = p
  · subst e
    rw [pk_us, if_pos ⟨hi, by omega⟩]
  · rw [pk_un e, h j]
    by_cases c : i ≤ j ∧ j < p
    · rw [if_pos c, if_pos ⟨c.1, by omega⟩]
    · rw [if_neg c, if_neg (by omega)]
theorem cr_P_0 {φ : Int32 → Int32} {A : Nat → Int32} {i : Nat} : cr_P φ A A i (3 * i) := fun q => (if_neg (by omega)).symm
theorem cr_P_r {φ : Int32 → Int32} {A A' : Nat → Int32} {i x : Nat} (h : cr_P φ A A' i x) : A' (x + 3) = A (x + 3) := by rw [h, if_neg (by omega)]
theorem cr_P_s {φ : Int32 → Int32} {A A' : Nat → Int32} {i x : Nat} (h : cr_P φ A A' i x) (hi : 3 * i ≤ x) : cr_P φ A (upd A' x (φ (A (x + 3)))) i (x + 1) := by
  intro j
  by_cases e : j = x
  · subst e
    rw [pk_us, if_pos ⟨hi, by omega⟩]
  · rw [pk_un e, h j]
    by_cases c : 3 * i ≤ j ∧ j < x
    · rw [if_pos c, if_pos ⟨c.1, by omega⟩]
    · rw [if_neg c, if_neg (by omega)]
def cr_sh (f : Nat → Nat) (i : Nat) : Nat → Nat := fun r => if r < i then f r else f (r + 1)
def cr_s3 (f : Nat → Nat) (i : Nat) : Nat → Nat := fun j => if j < 3 * i then f j else f (j + 3)
section
variable {st sz pt ng hd ob dq dr : Nat → Nat} {n N d k c r i w : Nat} {x y : Int32} {fD fC fS fU : Int32} {Ah As Az Ap Ag Ad An Ao Av Af At Aw Ak : Nat → Int32} {gD gC : Int32} {Bo Bd Bn Bh Bs Bz Bp Bg Bv Bk : Nat → Int32}
theorem cr_D_rm (D : cc_D (N + 1) hd st sz pt ng) (hi : i ≤ N) : cc_D N (cr_sh hd i) (cr_sh st i) (cr_sh sz i) (cr_s3 pt i) (cr_s3 ng i) := by
  refine ⟨by have := D.1; omega, fun q hq => ?_⟩
  by_cases e : q < i
  · obtain ⟨d1, d2, d3, d4, d5⟩ := D.2 q (by omega)
    have e1 : cr_sh hd i q = hd q := if_pos e
    have e2 : cr_sh st i q = st q := if_pos e
    have e3 : cr_sh sz i q = sz q := if_pos e
    rw [e1, e2, e3]
    refine ⟨d1, d2, d3, d4, fun k hk => ?_⟩
    have e4 : cr_s3 pt i (3 * q + k) = pt (3 * q + k) := if_pos (by omega)
    have e5 : cr_s3 ng i (3 * q + k) = ng (3 * q + k) := if_pos (by omega)
    rw [e4, e5]
    exact d5 k hk
  · obtain ⟨d1, d2, d3, d4, d5⟩ := D.2 (q + 1) (by omega)
    have e1 : cr_sh hd i q = hd (q + 1) := if_neg e
    have e2 : cr_sh st i q = st (q + 1) := if_neg e
    have e3 : cr_sh sz i q = sz (q + 1) := if_neg e
    rw [e1, e2, e3]
    refine ⟨d1, d2, d3, d4, fun k hk => ?_⟩
    have e6 : 3 * (q + 1) + k = 3 * q + k + 3 := by omega
    have e4 : cr_s3 pt i (3 * q + k) = pt (3 * (q + 1) + k) := by rw [e6]; exact if_neg (by omega)
    have e5 : cr_s3 ng i (3 * q + k) = ng (3 * (q + 1) + k) := by rw [e6]; exact if_neg (by omega)
    rw [e4, e5]
    exact d5 k hk
theorem cr_TR_rm {Ah' As' Az' Ap' Ag' : Nat → Int32} (D : cc_D (N + 1) hd st sz pt ng) (R : cc_TR (N + 1) Ah As Az Ap Ag hd st sz pt ng) (hi : i ≤ N)
    (h1 : cr_S Ah Ah' i N) (h2 : cr_S As As' i N) (h3 : cr_S Az Az' i N) (h4 : cr_P (fun x => x) Ap Ap' i (3 * N)) (h5 : cr_P (vp_nar .boolean) Ag Ag' i (3 * N)) :
    cc_TR N Ah' As' Az' Ap' Ag' (cr_sh hd i) (cr_sh st i) (cr_sh sz i) (cr_s3 pt i) (cr_s3 ng i) := by
  intro q hq
  by_cases e : q < i
  · obtain ⟨d1, d2, d3, d4, d5⟩ := D.2 q (by omega)
    obtain ⟨r1, r2, r3, r4⟩ := R q (by omega)
    have e1 : cr_sh hd i q = hd q := if_pos e
    have e2 : cr_sh st i q = st q := if_pos e
    have e3 : cr_sh sz i q = sz q := if_pos e
    rw [e1, e2, e3, h1 q, h2 q, h3 q, if_neg (by omega), if_neg (by omega), if_neg (by omega)]
    refine ⟨r1, r2, r3, fun k hk => ?_⟩
    have e4 : cr_s3 pt i (3 * q + k) = pt (3 * q + k) := if_pos (by omega)
    have e5 : cr_s3 ng i (3 * q + k) = ng (3 * q + k) := if_pos (by omega)
    rw [e4, e5, h4, h5, if_neg (by omega), if_neg (by omega)]
    exact r4 k hk
  · obtain ⟨d1, d2, d3, d4, d5⟩ := D.2 (q + 1) (by omega)
    obtain ⟨r1, r2, r3, r4⟩ := R (q + 1) (by omega)
    have e1 : cr_sh hd i q = hd (q + 1) := if_neg e
    have e2 : cr_sh st i q = st (q + 1) := if_neg e
    have e3 : cr_sh sz i q = sz (q + 1) := if_neg e
    rw [e1, e2, e3, h1 q, h2 q, h3 q, if_pos (by omega), if_pos (by omega), if_pos (by omega)]
    refine ⟨r1, r2, r3, fun k hk => ?_⟩
    have e6 : 3 * (q + 1) + k = 3 * q + k + 3 := by omega
    have e4 : cr_s3 pt i (3 * q + k) = pt (3 * (q + 1) + k) := by rw [e6]; exact if_neg (by omega)
    have e5 : cr_s3 ng i (3 * q + k) = ng (3 * (q + 1) + k) := by rw [e6]; exact if_neg (by omega)
    have e7 : Ap' (3 * q + k) = Ap (3 * (q + 1) + k) := by rw [e6, h4, if_pos (by omega)]
    have e8 : Ag' (3 * q + k) = vp_nar .boolean (Ag (3 * (q + 1) + k)) := by rw [e6, h5, if_pos (by omega)]
    rw [e4, e5, e7, e8, (r4 k hk).1, (r4 k hk).2]
    exact ⟨rfl, ca_bn (d5 k hk).2.1⟩
theorem cx_rm66 {post : Int32 → SX → Prop} {J : cx_TK} {Ap0 Ag0 : Nat → Int32} (hw : w + 1 < 20) (hi : i ≤ w)
    (H : ∀ Ap Ag : Nat → Int32, cr_P (fun x => x) Ap0 Ap i (3 * (w + 1)) → cr_P (vp_nar .boolean) Ag0 Ag i (3 * (w + 1)) → J (nI (w + 1 + 1)) Ah As Az Ap Ag Ad An Ao Av Af At Aw Ak) :
    ∀ (m k : Nat) (Ap Ag : Nat → Int32), k + m = 3 → cr_P (fun x => x) Ap0 Ap i (3 * w + k) → cr_P (vp_nar .boolean) Ag0 Ag i (3 * w + k) → wX_remove_66 post J (nI (w + 1)) fD fC fS fU (m + 1) (nI k) Ah As Az Ap Ag Ad An Ao Av Af At Aw Ak := by
  intro m
  induction m with
  | zero =>
    intro k Ap Ag hk hp hg
    have hk' : k = 3 := by omega
    subst hk'
    rw [wX_remove_66]
    exact br_t (nI_le (a := 3) (b := 3) (Nat.le_refl _) (by decide)) (nm_r (nI_1 (w + 1)) (H Ap Ag hp hg))
  | succ m ih =>
    intro k Ap Ag hk hp hg
    have e1 : (3 * nI (w + 1) + nI k : Int32) = nI (3 * w + k + 3) := by
      rw [ca_3]
      exact congrArg nI (by omega)
    have e2 : (3 * (nI (w + 1) - 1) + nI k : Int32) = nI (3 * w + k) := by rw [nI_pred, ca_3]
    have c1 : (nI (3 * w + k + 3)).toNatClampNeg = 3 * w + k + 3 := nI_clamp (by omega)
    have c2 : (nI (3 * w + k)).toNatClampNeg = 3 * w + k := nI_clamp (by omega)
    have v1 : vp_in (3 * nI (w + 1) + nI k) 60 := by rw [e1]; exact vp_in_nI (by omega) (by decide)
    have v2 : vp_in (3 * (nI (w + 1) - 1) + nI k) 60 := by rw [e2]; exact vp_in_nI (by omega) (by decide)
    rw [wX_remove_66]
    exact br_f (nI_ge (b := 3) (by omega) (by decide)) ⟨v1, v2, nm_r (e' := upd Ap (3 * w + k) (Ap0 (3 * w + k + 3))) (by rw [e1, e2, c1, c2, cr_P_r hp]) ⟨v1, v2, nm_r (e' := upd Ag (3 * w + k) (vp_nar .boolean (Ag0 (3 * w + k + 3)))) (by rw [e1, e2, c1, c2, cr_P_r hg]) (nm_r (nI_1 k) (ih (k + 1) _ _ (by omega) (cr_P_s hp (by omega)) (cr_P_s hg (by omega))))⟩⟩
theorem cx_rm14 {post : Int32 → SX → Prop} {Ah0 As0 Az0 Ap0 Ag0 : Nat → Int32} (hN : N + 1 ≤ 20)
    (H : ∀ Ah As Az Ap Ag : Nat → Int32, cr_S Ah0 Ah i N → cr_S As0 As i N → cr_S Az0 Az i N → cr_P (fun x => x) Ap0 Ap i (3 * N) → cr_P (vp_nar .boolean) Ag0 Ag i (3 * N) → post (nI N) (fD, nI N, fS, 0, Ah, As, Az, Ap, Ag, Ad, An, Ao, Av, Af, At, Aw, Ak)) :
    ∀ (m w : Nat) (Ah As Az Ap Ag : Nat → Int32), w + m = N → i ≤ w → cr_S Ah0 Ah i w → cr_S As0 As i w → cr_S Az0 Az i w → cr_P (fun x => x) Ap0 Ap i (3 * w) → cr_P (vp_nar .boolean) Ag0 Ag i (3 * w) →
      wX_remove_14 post fD (nI (N + 1)) fS fU (m + 1) (nI (w + 1)) Ah As Az Ap Ag Ad An Ao Av Af At Aw Ak := by
  intro m
  induction m with
  | zero =>
    intro w Ah As Az Ap Ag hw hi h1 h2 h3 h4 h5
    have hw' : w = N := by omega
    subst hw'
    rw [wX_remove_14]
    exact br_t (nI_le (Nat.le_refl _) (by omega)) (nm_r (nI_pred w) (H Ah As Az Ap Ag h1 h2 h3 h4 h5))
  | succ m ih =>
    intro w Ah As Az Ap Ag hw hi h1 h2 h3 h4 h5
    have e2 : nI (w + 1) - 1 = nI w := nI_pred w
    have c1 : (nI (w + 1)).toNatClampNeg = w + 1 := nI_clamp (by omega)
    have c2 : (nI w).toNatClampNeg = w := nI_clamp (by omega)
    have v1 : vp_in (nI (w + 1)) 20 := vp_in_nI (by omega) (by decide)
    have v2 : vp_in (nI (w + 1) - 1) 20 := by rw [e2]; exact vp_in_nI (by omega) (by decide)
    rw [wX_remove_14]
    refine br_f (nI_ge (by omega) (by omega)) ⟨v1, v2, nm_r (e' := upd Ah w (Ah0 (w + 1))) (by rw [e2, c1, c2, cr_S_r h1]) ⟨v1, v2, nm_r (e' := upd As w (As0 (w + 1))) (by rw [e2, c1, c2, cr_S_r h2]) ⟨v1, v2, nm_r (e' := upd Az w (Az0 (w + 1))) (by rw [e2, c1, c2, cr_S_r h3]) ⟨3 + 1, ?_⟩⟩⟩⟩
    exact cx_rm66 (by omega) hi (fun Ap' Ag' hp hg => ih (w + 1) _ _ _ Ap' Ag' (by omega) (by omega) (cr_S_s h1 hi) (cr_S_s h2 hi) (cr_S_s h3 hi) hp hg) 3 0 Ap Ag rfl h4 h5
theorem cx_remove1 {post : Int32 → SX → Prop} (hn : n ≤ 20) (hx : ¬ ∃ r, r < n ∧ x = nI r) (h : post (-1) (fD, nI n, fS, fU, Ah, As, Az, Ap, Ag, Ad, An, Ao, Av, Af, At, Aw, Ak)) : wpX_remove post (fD, nI n, fS, fU, Ah, As, Az, Ap, Ag, Ad, An, Ao, Av, Af, At, Aw, Ak) x := by
  unfold wpX_remove
  exact cx_nr hn hx (br_t rfl h)
theorem cx_remove {post : Int32 → SX → Prop} (hN : N + 1 ≤ 20) (hi : i < N + 1)
    (H : ∀ Ah' As' Az' Ap' Ag' : Nat → Int32, cr_S Ah Ah' i N → cr_S As As' i N → cr_S Az Az' i N → cr_P (fun x => x) Ap Ap' i (3 * N) → cr_P (vp_nar .boolean) Ag Ag' i (3 * N) → post (nI N) (fD, nI N, fS, 0, Ah', As', Az', Ap', Ag', Ad, An, Ao, Av, Af, At, Aw, Ak)) :
    wpX_remove post (fD, nI (N + 1), fS, fU, Ah, As, Az, Ap, Ag, Ad, An, Ao, Av, Af, At, Aw, Ak) (nI i) := by
  unfold wpX_remove
  exact cx_ru hi hN (br_f (by decide) (nm_r (nI_1 i) ⟨N - i + 1, cx_rm14 hN H (N - i) i Ah As Az Ap Ag (by omega) (Nat.le_refl _) cr_S_0 cr_S_0 cr_S_0 cr_P_0 cr_P_0⟩))
theorem cy_rm72 {post : Int32 → SY → Prop} {J : cy_TK} {Bp0 Bg0 : Nat → Int32} (hw : w + 1 < 20) (hi : i ≤ w)
    (H : ∀ Bp Bg : Nat → Int32, cr_P (fun x => x) Bp0 Bp i (3 * (w + 1)) → cr_P (vp_nar .boolean) Bg0 Bg i (3 * (w + 1)) → J (nI (w + 1)) Bo Bd Bn Bh Bs Bz Bp Bg Bv Bk) :
    ∀ (m k : Nat) (Bp Bg : Nat → Int32), k + m = 3 → cr_P (fun x => x) Bp0 Bp i (3 * w + k) → cr_P (vp_nar .boolean) Bg0 Bg i (3 * w + k) → wY_remove_72 post J (nI w) gD gC (m + 1) (nI k) Bo Bd Bn Bh Bs Bz Bp Bg Bv Bk := by
  intro m
  induction m with
  | zero =>
    intro k Bp Bg hk hp hg
    have hk' : k = 3 := by omega
    subst hk'
    rw [wY_remove_72]
    exact br_t (nI_le (a := 3) (b := 3) (Nat.le_refl _) (by decide)) (nm_r (nI_1 w) (H Bp Bg hp hg))
  | succ m ih =>
    intro k Bp Bg hk hp hg
    have e1 : (3 * nI w + 3 + nI k : Int32) = nI (3 * w + k + 3) := by
      rw [show (3 * nI w + 3 : Int32) = nI (3 * w + 3) from ca_3 w 3, nI_add]
      exact congrArg nI (by omega)
    have e2 : (3 * nI w + nI k : Int32) = nI (3 * w + k) := ca_3 w k
    have c1 : (nI (3 * w + k + 3)).toNatClampNeg = 3 * w + k + 3 := nI_clamp (by omega)
    have c2 : (nI (3 * w + k)).toNatClampNeg = 3 * w + k := nI_clamp (by omega)
    have v1 : vp_in (3 * nI w + 3 + nI k) 60 := by rw [e1]; exact vp_in_nI (by omega) (by decide)
    have v2 : vp_in (3 * nI w + nI k) 60 := by rw [e2]; exact vp_in_nI (by omega) (by decide)
    rw [wY_remove_72]
    exact br_f (nI_ge (b := 3) (by omega) (by decide)) ⟨v1, v2, nm_r (e' := upd Bp (3 * w + k) (Bp0 (3 * w + k + 3))) (by rw [e1, e2, c1, c2, cr_P_r hp]) ⟨v1, v2, nm_r (e' := upd Bg (3 * w + k) (vp_nar .boolean (Bg0 (3 * w + k + 3)))) (by rw [e1, e2, c1, c2, cr_P_r hg]) (nm_r (nI_1 k) (ih (k + 1) _ _ (by omega) (cr_P_s hp (by omega)) (cr_P_s hg (by omega))))⟩⟩
theorem cy_rm12 {post : Int32 → SY → Prop} {Bh0 Bs0 Bz0 Bp0 Bg0 : Nat → Int32} (hN : N + 1 ≤ 20)
    (H : ∀ Bh Bs Bz Bp Bg : Nat → Int32, cr_S Bh0 Bh i N → cr_S Bs0 Bs i N → cr_S Bz0 Bz i N → cr_P (fun x => x) Bp0 Bp i (3 * N) → cr_P (vp_nar .boolean) Bg0 Bg i (3 * N) → post (nI N) (gD, nI N, Bo, Bd, Bn, Bh, Bs, Bz, Bp, Bg, Bv, Bk)) :
    ∀ (m w : Nat) (Bh Bs Bz Bp Bg : Nat → Int32), w + m = N → i ≤ w → cr_S Bh0 Bh i w → cr_S Bs0 Bs i w → cr_S Bz0 Bz i w → cr_P (fun x => x) Bp0 Bp i (3 * w) → cr_P (vp_nar .boolean) Bg0 Bg i (3 * w) →
      wY_remove_12 post gD (nI (N + 1)) (m + 1) (nI w) Bo Bd Bn Bh Bs Bz Bp Bg Bv Bk := by
  intro m
  induction m with
  | zero =>
    intro w Bh Bs Bz Bp Bg hw hi h1 h2 h3 h4 h5
    have hw' : w = N := by omega
    subst hw'
    rw [wY_remove_12]
    refine br_t ?_ ?_
    · rw [nI_pred]
      exact nI_le (Nat.le_refl _) (by omega)
    · unfold wY_remove_133
      exact nm_r (nI_pred w) (H Bh Bs Bz Bp Bg h1 h2 h3 h4 h5)
  | succ m ih =>
    intro w Bh Bs Bz Bp Bg hw hi h1 h2 h3 h4 h5
    have e2 : nI w + 1 = nI (w + 1) := nI_1 w
    have c1 : (nI (w + 1)).toNatClampNeg = w + 1 := nI_clamp (by omega)
    have c2 : (nI w).toNatClampNeg = w := nI_clamp (by omega)
    have v1 : vp_in (nI w + 1) 20 := by rw [e2]; exact vp_in_nI (by omega) (by decide)
    have v2 : vp_in (nI w) 20 := vp_in_nI (by omega) (by decide)
    rw [wY_remove_12]
    refine br_f ?_ (br_f (nI_ge (b := 19) (by omega) (by decide)) ⟨v1, v2, nm_r (e' := upd Bh w (Bh0 (w + 1))) (by rw [e2, c1, c2, cr_S_r h1]) ⟨v1, v2, nm_r (e' := upd Bs w (Bs0 (w + 1))) (by rw [e2, c1, c2, cr_S_r h2]) ⟨v1, v2, nm_r (e' := upd Bz w (Bz0 (w + 1))) (by rw [e2, c1, c2, cr_S_r h3]) ⟨3 + 1, ?_⟩⟩⟩⟩)
    · rw [nI_pred]
      exact nI_ge (by omega) (by omega)
    · exact cy_rm72 (by omega) hi (fun Bp' Bg' hp hg => ih (w + 1) _ _ _ Bp' Bg' (by omega) (by omega) (cr_S_s h1 hi) (cr_S_s h2 hi) (cr_S_s h3 hi) hp hg) 3 0 Bp Bg rfl h4 h5
theorem cy_remove1 {post : Int32 → SY → Prop} (hn : n ≤ 20) (hx : ¬ ∃ r, r < n ∧ x = nI r) (h : post (-1) (gD, nI n, Bo, Bd, Bn, Bh, Bs, Bz, Bp, Bg, Bv, Bk)) : wpY_remove post (gD, nI n, Bo, Bd, Bn, Bh, Bs, Bz, Bp, Bg, Bv, Bk) x := by
  unfold wpY_remove
  exact cy_nr hn hx (br_f (by decide) h)
theorem cy_remove {post : Int32 → SY → Prop} (hN : N + 1 ≤ 20) (hi : i < N + 1)
    (H : ∀ Bh' Bs' Bz' Bp' Bg' : Nat → Int32, cr_S Bh Bh' i N → cr_S Bs Bs' i N → cr_S Bz Bz' i N → cr_P (fun x => x) Bp Bp' i (3 * N) → cr_P (vp_nar .boolean) Bg Bg' i (3 * N) → post (nI N) (gD, nI N, Bo, Bd, Bn, Bh', Bs', Bz', Bp', Bg', Bv, Bk)) :
    wpY_remove post (gD, nI (N + 1), Bo, Bd, Bn, Bh, Bs, Bz, Bp, Bg, Bv, Bk) (nI i) := by
  unfold wpY_remove
  exact cy_ru hi hN (br_t rfl ⟨N - i + 1, cy_rm12 hN H (N - i) i Bh Bs Bz Bp Bg (by omega) (Nat.le_refl _) cr_S_0 cr_S_0 cr_S_0 cr_P_0 cr_P_0⟩)
theorem i_vc_remove {k : Nat} {u : SX} {v : SY} (I : i_Rel k u v) (hk : k + 4 ≤ 2048) (v1 : Int32) : wpX_remove (fun r u' => wpY_remove (fun r' v' => r' = r ∧ i_Rel (k + 4) u' v') v v1) u v1 := by
  refine cr_el (P := fun u v => wpX_remove (fun r u' => wpY_remove (fun r' v' => r' = r ∧ i_Rel (k + 4) u' v') v v1) u v1) ?_ I
  intro n d hd st sz pt ng ob dq dr fU Ah As Az Ap Ag Ad An Ao Av Af At Aw Ak Bo Bd Bn Bh Bs Bz Bp Bg Bv Bk G X Y
  have hn : n ≤ 20 := G.1.1
  by_cases hc : ∃ r, r < n ∧ v1 = nI r
  · obtain ⟨i, hi, rfl⟩ := hc
    obtain ⟨N, rfl⟩ : ∃ N, n = N + 1 := ⟨n - 1, by omega⟩
    refine cx_remove hn hi (fun Ah' As' Az' Ap' Ag' a1 a2 a3 a4 a5 => cy_remove hn hi (fun Bh' Bs' Bz' Bp' Bg' b1 b2 b3 b4 b5 => ⟨rfl, ?_⟩))
    exact cr_in ⟨cr_D_rm G.1 (by omega), G.2⟩ ⟨cr_TR_rm G.1 X.1 (by omega) a1 a2 a3 a4 a5, X.2.1, X.2.2.1, X.2.2.2.1, fun z => absurd rfl z⟩ ⟨cr_TR_rm G.1 Y.1 (by omega) b1 b2 b3 b4 b5, Y.2⟩
  · exact cx_remove1 hn hc (cy_remove1 hn hc ⟨rfl, cr_in G X Y⟩)
end
end
section
/-! the questions: refresh, workOut, certainty, whatIf, without, yield -/
theorem cr_m1 : ∀ r, r < 20 → (nI r = (-1 : Int32) ↔ r = 20) := fun r hr => ⟨fun z => absurd z (ca_m1 (by omega)), fun z => by omega⟩
theorem cr_sk {q : Nat} (hq : q < 20) : ∀ r, r < 20 → (nI r = nI q ↔ r = q) := fun r hr => nI_eq (by omega) (by omega)
section
variable {st sz pt ng hd ob dq dr : Nat → Nat} {n d k c e r s q : Nat} {x y : Int32} {fD fC fS fU : Int32} {Ah As Az Ap Ag Ad An Ao Av Af At Aw Ak : Nat → Int32} {gD gC : Int32} {Bo Bd Bn Bh Bs Bz Bp Bg Bv Bk : Nat → Int32}
theorem cr_TO (TO : cc_TA 16 Bo ob) : ∀ c, c < 16 → (nI c = (-1 : Int32) → (0 : Int32) = nI (ob c)) ∧ (¬ nI c = (-1 : Int32) → Bo c = nI (ob c)) :=
  fun c hc => ⟨fun z => absurd z (ca_m1 (by omega)), fun _ => TO c hc⟩
theorem cr_TO2 (TO : cc_TA 16 Bo ob) (he : e < 16) : ∀ c, c < 16 → (nI c = nI e → nI s = nI (cc_up ob e s c)) ∧ (¬ nI c = nI e → Bo c = nI (cc_up ob e s c)) := by
  intro c hc
  refine ⟨fun z => ?_, fun z => ?_⟩
  · have e' := (nI_eq (by omega) (by omega)).mp z
    subst e'
    rw [cc_up_e]
  · rw [cc_up_n (fun w => z (by rw [w]))]
    exact TO c hc
theorem cr_bd (G : cr_G n d hd st sz pt ng ob dq dr) {Av : Nat → Int32} (hv : cr_VA n hd st sz pt ng ob Av) : ∀ c, c < 16 → cc_sol n 20 hd st sz pt ng ob c ≤ 100 := fun c hc => cc_bd G.1 G.2.2.2 hv.2 hc
theorem cx_cur {fU' : Int32} {Av' : Nat → Int32} (X : cr_X n d hd st sz pt ng ob dq dr fU Ah As Az Ap Ag Ad An Ao Av) (hv : cr_VA n hd st sz pt ng ob Av') : cr_X n d hd st sz pt ng ob dq dr fU' Ah As Az Ap Ag Ad An Ao Av' := ⟨X.1, X.2.1, X.2.2.1, X.2.2.2.1, fun _ => hv⟩
theorem cx_old {Av' Ao' : Nat → Int32} (X : cr_X n d hd st sz pt ng ob dq dr fU Ah As Az Ap Ag Ad An Ao Av) (TO : cc_TA 16 Ao' ob) : cr_X n d hd st sz pt ng ob dq dr 0 Ah As Az Ap Ag Ad An Ao' Av' := ⟨X.1, X.2.1, X.2.2.1, TO, fun z => absurd rfl z⟩
theorem cx_refresh {post : SX → Prop} (G : cr_G n d hd st sz pt ng ob dq dr) (X : cr_X n d hd st sz pt ng ob dq dr fU Ah As Az Ap Ag Ad An Ao Av)
    (H : ∀ (fU : Int32) (Av Af At Aw : Nat → Int32), ¬ fU = 0 → cr_VA n hd st sz pt ng ob Av → post (nI d, nI n, -1, fU, Ah, As, Az, Ap, Ag, Ad, An, Ao, Av, Af, At, Aw, Ak)) : wpX_refresh post (nI d, nI n, -1, fU, Ah, As, Az, Ap, Ag, Ad, An, Ao, Av, Af, At, Aw, Ak) := by
  unfold wpX_refresh
  by_cases e : fU = 0
  · exact br_t e (cx_settle G.1 X.1 cr_m1 G.2.2.2 X.2.2.2.1 (fun Av Af At Aw h1 h2 => H 1 Av Af At Aw (by decide) ⟨h1, h2⟩))
  · exact br_f e (H fU Av Af At Aw e (X.2.2.2.2 e))
theorem cy_all {post : SY → Prop} (G : cr_G n d hd st sz pt ng ob dq dr) (Y : cr_Y n d hd st sz pt ng ob dq dr Bo Bd Bn Bh Bs Bz Bp Bg) (H : ∀ Bv : Nat → Int32, cr_VA n hd st sz pt ng ob Bv → post (nI d, nI n, Bo, Bd, Bn, Bh, Bs, Bz, Bp, Bg, Bv, Bk)) : wpY_workOut post (nI d, nI n, Bo, Bd, Bn, Bh, Bs, Bz, Bp, Bg, Bv, Bk) (-1) 0 (-1) :=
  cy_work G.1 Y.1 cr_m1 G.2.2.2 (cr_TO Y.2.2.2) (fun Bv a b => H Bv ⟨a, b⟩)
theorem cx_settleW {post : SX → Prop} (G : cr_G n d hd st sz pt ng ob dq dr) (X : cr_X n d hd st sz pt ng ob dq dr fU Ah As Az Ap Ag Ad An Ao Av) (hq : q < n)
    (H : ∀ (Av Af At Aw : Nat → Int32), cc_TA 16 Av (cc_sol n q hd st sz pt ng ob) → cc_Sol n q hd st sz pt ng ob (cc_sol n q hd st sz pt ng ob) → post (nI d, nI n, -1, 0, Ah, As, Az, Ap, Ag, Ad, An, Ao, Av, Af, At, Aw, Ak)) : wpX_settleWithout post (nI d, nI n, -1, fU, Ah, As, Az, Ap, Ag, Ad, An, Ao, Av, Af, At, Aw, Ak) (nI q) := by
  have hn := G.1.1
  unfold wpX_settleWithout
  exact cx_settle G.1 X.1 (cr_sk (by omega)) G.2.2.2 X.2.2.2.1 (fun Av Af At Aw h1 h2 => H Av Af At Aw h1 h2)
theorem cy_allW {post : SY → Prop} (G : cr_G n d hd st sz pt ng ob dq dr) (Y : cr_Y n d hd st sz pt ng ob dq dr Bo Bd Bn Bh Bs Bz Bp Bg) (hq : q < n)
    (H : ∀ Bv : Nat → Int32, cc_TA 16 Bv (cc_sol n q hd st sz pt ng ob) → cc_Sol n q hd st sz pt ng ob (cc_sol n q hd st sz pt ng ob) → post (nI d, nI n, Bo, Bd, Bn, Bh, Bs, Bz, Bp, Bg, Bv, Bk)) : wpY_workOut post (nI d, nI n, Bo, Bd, Bn, Bh, Bs, Bz, Bp, Bg, Bv, Bk) (-1) 0 (nI q) := by
  have hn := G.1.1
  exact cy_work G.1 Y.1 (cr_sk (by omega)) G.2.2.2 (cr_TO Y.2.2.2) (fun Bv a b => H Bv a b)
theorem cx_settleO {post : SX → Prop} (G : cr_G n d hd st sz pt ng ob dq dr) (X : cr_X n d hd st sz pt ng ob dq dr fU Ah As Az Ap Ag Ad An Ao Av) (hs : s ≤ 100) (he : e < 16)
    (H : ∀ (Av Af At Aw : Nat → Int32), cc_TA 16 Av (cc_sol n 20 hd st sz pt ng (cc_up ob e s)) → cc_Sol n 20 hd st sz pt ng (cc_up ob e s) (cc_sol n 20 hd st sz pt ng (cc_up ob e s)) → post (nI d, nI n, -1, fU, Ah, As, Az, Ap, Ag, Ad, An, upd Ao e (nI s), Av, Af, At, Aw, Ak)) : wpX_settleAll post (nI d, nI n, -1, fU, Ah, As, Az, Ap, Ag, Ad, An, upd Ao e (nI s), Av, Af, At, Aw, Ak) :=
  cx_settle G.1 X.1 cr_m1 (cr_O_up G.2.2.2 hs) (ca_up X.2.2.2.1) H
theorem cy_allO {post : SY → Prop} (G : cr_G n d hd st sz pt ng ob dq dr) (Y : cr_Y n d hd st sz pt ng ob dq dr Bo Bd Bn Bh Bs Bz Bp Bg) (hs : s ≤ 100) (he : e < 16)
    (H : ∀ Bv : Nat → Int32, cc_TA 16 Bv (cc_sol n 20 hd st sz pt ng (cc_up ob e s)) → cc_Sol n 20 hd st sz pt ng (cc_up ob e s) (cc_sol n 20 hd st sz pt ng (cc_up ob e s)) → post (nI d, nI n, Bo, Bd, Bn, Bh, Bs, Bz, Bp, Bg, Bv, Bk)) : wpY_workOut post (nI d, nI n, Bo, Bd, Bn, Bh, Bs, Bz, Bp, Bg, Bv, Bk) (nI e) (nI s) (-1) :=
  cy_work G.1 Y.1 cr_m1 (cr_O_up G.2.2.2 hs) (cr_TO2 Y.2.2.2 he) H
theorem cr_back {A : Nat → Int32} (TO : cc_TA 16 A ob) : cc_TA 16 (upd (upd A e (nI s)) e (nI (ob e))) ob :=
  ca_eq (ca_up (ca_up TO)) (fun j _ => (cc_up_up j).trans (cc_up_id rfl j).symm)
theorem cx_certainty1 {post : Int32 → SX → Prop} (hx : ¬ ∃ c, c < 16 ∧ x = nI c) (h : post (-1) (fD, fC, fS, fU, Ah, As, Az, Ap, Ag, Ad, An, Ao, Av, Af, At, Aw, Ak)) : wpX_certainty post (fD, fC, fS, fU, Ah, As, Az, Ap, Ag, Ad, An, Ao, Av, Af, At, Aw, Ak) x := by
  unfold wpX_certainty
  exact cx_nc hx (br_t rfl h)
theorem cy_certainty1 {post : Int32 → SY → Prop} (hx : ¬ ∃ c, c < 16 ∧ x = nI c) (h : post (-1) (gD, gC, Bo, Bd, Bn, Bh, Bs, Bz, Bp, Bg, Bv, Bk)) : wpY_certainty post (gD, gC, Bo, Bd, Bn, Bh, Bs, Bz, Bp, Bg, Bv, Bk) x := by
  unfold wpY_certainty
  exact cy_nc hx (br_f (by decide) h)
theorem cx_certainty {post : Int32 → SX → Prop} (G : cr_G n d hd st sz pt ng ob dq dr) (X : cr_X n d hd st sz pt ng ob dq dr fU Ah As Az Ap Ag Ad An Ao Av) (hc : c < 16) (H : ∀ (fU : Int32) (Av Af At Aw : Nat → Int32), ¬ fU = 0 → cr_VA n hd st sz pt ng ob Av → post (nI (cc_sol n 20 hd st sz pt ng ob c)) (nI d, nI n, -1, fU, Ah, As, Az, Ap, Ag, Ad, An, Ao, Av, Af, At, Aw, Ak)) : wpX_certainty post (nI d, nI n, -1, fU, Ah, As, Az, Ap, Ag, Ad, An, Ao, Av, Af, At, Aw, Ak) (nI c) := by
  have c1 : (nI c).toNatClampNeg = c := nI_clamp (by omega)
  unfold wpX_certainty
  refine cx_cl hc (br_f (by decide) (cx_refresh G X (fun fU' Av' Af' At' Aw' hu hv => ⟨vp_in_nI hc (by decide), ?_⟩)))
  rw [c1, hv.1 c hc]
  exact H fU' Av' Af' At' Aw' hu hv
theorem cy_certainty {post : Int32 → SY → Prop} (G : cr_G n d hd st sz pt ng ob dq dr) (Y : cr_Y n d hd st sz pt ng ob dq dr Bo Bd Bn Bh Bs Bz Bp Bg) (hc : c < 16) (H : ∀ Bv : Nat → Int32, post (nI (cc_sol n 20 hd st sz pt ng ob c)) (nI d, nI n, Bo, Bd, Bn, Bh, Bs, Bz, Bp, Bg, Bv, Bk)) : wpY_certainty post (nI d, nI n, Bo, Bd, Bn, Bh, Bs, Bz, Bp, Bg, Bv, Bk) (nI c) := by
  have c1 : (nI c).toNatClampNeg = c := nI_clamp (by omega)
  unfold wpY_certainty
  refine cy_cl hc (br_t rfl (cy_all G Y (fun Bv' hv => ⟨vp_in_nI hc (by decide), ?_⟩)))
  rw [c1, hv.1 c hc]
  exact H Bv'
theorem i_vc_certainty {k : Nat} {u : SX} {v : SY} (I : i_Rel k u v) (hk : k + 4 ≤ 2048) (v1 : Int32) : wpX_certainty (fun r u' => wpY_certainty (fun r' v' => r' = r ∧ i_Rel (k + 4) u' v') v v1) u v1 := by
  refine cr_el (P := fun u v => wpX_certainty (fun r u' => wpY_certainty (fun r' v' => r' = r ∧ i_Rel (k + 4) u' v') v v1) u v1) ?_ I
  intro n d hd st sz pt ng ob dq dr fU Ah As Az Ap Ag Ad An Ao Av Af At Aw Ak Bo Bd Bn Bh Bs Bz Bp Bg Bv Bk G X Y
  have hn : n ≤ 20 := G.1.1
  by_cases hc : ∃ c, c < 16 ∧ v1 = nI c
  · obtain ⟨c, hc, rfl⟩ := hc
    exact cx_certainty G X hc (fun fU' Av' Af' At' Aw' hu hv => cy_certainty G Y hc (fun Bv' => ⟨rfl, cr_in G (cx_cur X hv) Y⟩))
  · exact cx_certainty1 hc (cy_certainty1 hc ⟨rfl, cr_in G X Y⟩)
theorem cx_whatIf1 {post : Int32 → SX → Prop} {w : Int32} (hx : (¬ ∃ c, c < 16 ∧ x = nI c) ∨ ¬ ∃ c, c < 16 ∧ y = nI c) (h : post (-1) (fD, fC, fS, fU, Ah, As, Az, Ap, Ag, Ad, An, Ao, Av, Af, At, Aw, Ak)) : wpX_whatIf post (fD, fC, fS, fU, Ah, As, Az, Ap, Ag, Ad, An, Ao, Av, Af, At, Aw, Ak) x y w := by
  unfold wpX_whatIf
  by_cases hc : ∃ c, c < 16 ∧ x = nI c
  · obtain ⟨c, hc, rfl⟩ := hc
    exact cx_cl hc (br_f (by decide) (cx_nc (hx.resolve_left (fun z => z ⟨c, hc, rfl⟩)) (br_t rfl h)))
  · exact cx_nc hc (br_t rfl h)
theorem cy_whatIf1 {post : Int32 → SY → Prop} {w : Int32} (hx : (¬ ∃ c, c < 16 ∧ x = nI c) ∨ ¬ ∃ c, c < 16 ∧ y = nI c) (h : post (-1) (gD, gC, Bo, Bd, Bn, Bh, Bs, Bz, Bp, Bg, Bv, Bk)) : wpY_whatIf post (gD, gC, Bo, Bd, Bn, Bh, Bs, Bz, Bp, Bg, Bv, Bk) x y w := by
  unfold wpY_whatIf
  by_cases hc : ∃ c, c < 16 ∧ x = nI c
  · obtain ⟨c, hc, rfl⟩ := hc
    exact cy_cl hc (br_t rfl (cy_nc (hx.resolve_left (fun z => z ⟨c, hc, rfl⟩)) (br_f (by decide) h)))
  · exact cy_nc hc (br_f (by decide) h)
theorem cx_whatIf2 {post : Int32 → SX → Prop} (hc : c < 16) (he : e < 16) (hy : y < 0 ∨ ¬ y ≤ 100) (h : post (-2) (fD, fC, fS, fU, Ah, As, Az, Ap, Ag, Ad, An, Ao, Av, Af, At, Aw, Ak)) : wpX_whatIf post (fD, fC, fS, fU, Ah, As, Az, Ap, Ag, Ad, An, Ao, Av, Af, At, Aw, Ak) (nI c) (nI e) y := by
  unfold wpX_whatIf
  exact cx_cl hc (br_f (by decide) (cx_cl he (br_f (by decide) (br_c (fun _ => h) (fun z => br_f (hy.resolve_left z) h)))))
theorem cy_whatIf2 {post : Int32 → SY → Prop} (hc : c < 16) (he : e < 16) (hy : y < 0 ∨ ¬ y ≤ 100) (h : post (-2) (gD, gC, Bo, Bd, Bn, Bh, Bs, Bz, Bp, Bg, Bv, Bk)) : wpY_whatIf post (gD, gC, Bo, Bd, Bn, Bh, Bs, Bz, Bp, Bg, Bv, Bk) (nI c) (nI e) y := by
  unfold wpY_whatIf
  exact cy_cl hc (br_t rfl (cy_cl he (br_t rfl (br_c (fun _ => h) (fun z => br_f (hy.resolve_left z) h)))))
theorem cx_whatIf {post : Int32 → SX → Prop} (G : cr_G n d hd st sz pt ng ob dq dr) (X : cr_X n d hd st sz pt ng ob dq dr fU Ah As Az Ap Ag Ad An Ao Av) (hc : c < 16) (he : e < 16) (hs : s ≤ 100)
    (H : ∀ (Ao Av Af At Aw : Nat → Int32), cc_TA 16 Ao ob → post (nI (cc_sol n 20 hd st sz pt ng (cc_up ob e s) c)) (nI d, nI n, -1, 0, Ah, As, Az, Ap, Ag, Ad, An, Ao, Av, Af, At, Aw, Ak)) : wpX_whatIf post (nI d, nI n, -1, fU, Ah, As, Az, Ap, Ag, Ad, An, Ao, Av, Af, At, Aw, Ak) (nI c) (nI e) (nI s) := by
  have c1 : (nI c).toNatClampNeg = c := nI_clamp (by omega)
  have c2 : (nI e).toNatClampNeg = e := nI_clamp (by omega)
  have i1 : vp_in (nI c) 16 := vp_in_nI hc (by decide)
  have i2 : vp_in (nI e) 16 := vp_in_nI he (by decide)
  unfold wpX_whatIf
  refine cx_cl hc (br_f (by decide) (cx_cl he (br_f (by decide) (br_f (nI_pos (by omega)) (br_t (nI_le (b := 100) hs (by decide)) ⟨i2, nm_r (e' := nI (ob e)) (by rw [c2]; exact X.2.2.2.1 e he) ⟨i2, nm_r (e' := upd Ao e (nI s)) (by rw [c2]) (cx_settleO G X hs he (fun Av' Af' At' Aw' h1 h2 => ⟨i2, nm_r (e' := upd (upd Ao e (nI s)) e (nI (ob e))) (by rw [c2]) ⟨i1, ?_⟩⟩))⟩⟩)))))
  rw [c1, h1 c hc]
  exact H _ Av' Af' At' Aw' (cr_back X.2.2.2.1)
theorem cy_whatIf {post : Int32 → SY → Prop} (G : cr_G n d hd st sz pt ng ob dq dr) (Y : cr_Y n d hd st sz pt ng ob dq dr Bo Bd Bn Bh Bs Bz Bp Bg) (hc : c < 16) (he : e < 16) (hs : s ≤ 100)
    (H : ∀ Bv : Nat → Int32, post (nI (cc_sol n 20 hd st sz pt ng (cc_up ob e s) c)) (nI d, nI n, Bo, Bd, Bn, Bh, Bs, Bz, Bp, Bg, Bv, Bk)) : wpY_whatIf post (nI d, nI n, Bo, Bd, Bn, Bh, Bs, Bz, Bp, Bg, Bv, Bk) (nI c) (nI e) (nI s) := by
  have c1 : (nI c).toNatClampNeg = c := nI_clamp (by omega)
  have i1 : vp_in (nI c) 16 := vp_in_nI hc (by decide)
  unfold wpY_whatIf
  refine cy_cl hc (br_t rfl (cy_cl he (br_t rfl (br_f (nI_pos (by omega)) (br_t (nI_le (b := 100) hs (by decide)) (cy_allO G Y hs he (fun Bv' h1 h2 => ⟨i1, ?_⟩)))))))
  rw [c1, h1 c hc]
  exact H Bv'
theorem i_vc_whatIf {k : Nat} {u : SX} {v : SY} (I : i_Rel k u v) (hk : k + 4 ≤ 2048) (v1 : Int32) (v2 : Int32) (v3 : Int32) : wpX_whatIf (fun r u' => wpY_whatIf (fun r' v' => r' = r ∧ i_Rel (k + 4) u' v') v v1 v2 v3) u v1 v2 v3 := by
  refine cr_el (P := fun u v => wpX_whatIf (fun r u' => wpY_whatIf (fun r' v' => r' = r ∧ i_Rel (k + 4) u' v') v v1 v2 v3) u v1 v2 v3) ?_ I
  intro n d hd st sz pt ng ob dq dr fU Ah As Az Ap Ag Ad An Ao Av Af At Aw Ak Bo Bd Bn Bh Bs Bz Bp Bg Bv Bk G X Y
  have hn : n ≤ 20 := G.1.1
  by_cases hc : ∃ c, c < 16 ∧ v1 = nI c
  · by_cases he : ∃ c, c < 16 ∧ v2 = nI c
    · obtain ⟨c, hc, rfl⟩ := hc
      obtain ⟨e, he, rfl⟩ := he
      by_cases a : v3 < 0
      · exact cx_whatIf2 hc he (Or.inl a) (cy_whatIf2 hc he (Or.inl a) ⟨rfl, cr_in G X Y⟩)
      · by_cases b : v3 ≤ 100
        · obtain ⟨s, s1, s2, rfl⟩ := cr_rg 0 100 (by decide) (by decide) a b
          exact cx_whatIf G X hc he s2 (fun Ao' Av' Af' At' Aw' TO => cy_whatIf G Y hc he s2 (fun Bv' => ⟨rfl, cr_in G (cx_old X TO) Y⟩))
        · exact cx_whatIf2 hc he (Or.inr b) (cy_whatIf2 hc he (Or.inr b) ⟨rfl, cr_in G X Y⟩)
    · exact cx_whatIf1 (Or.inr he) (cy_whatIf1 (Or.inr he) ⟨rfl, cr_in G X Y⟩)
  · exact cx_whatIf1 (Or.inl hc) (cy_whatIf1 (Or.inl hc) ⟨rfl, cr_in G X Y⟩)
theorem cx_without1 {post : Int32 → SX → Prop} (hx : ¬ ∃ c, c < 16 ∧ x = nI c) (h : post (-1) (fD, fC, fS, fU, Ah, As, Az, Ap, Ag, Ad, An, Ao, Av, Af, At, Aw, Ak)) : wpX_without post (fD, fC, fS, fU, Ah, As, Az, Ap, Ag, Ad, An, Ao, Av, Af, At, Aw, Ak) x y := by
  unfold wpX_without
  exact cx_nc hx (br_t rfl h)
theorem cy_without1 {post : Int32 → SY → Prop} (hx : ¬ ∃ c, c < 16 ∧ x = nI c) (h : post (-1) (gD, gC, Bo, Bd, Bn, Bh, Bs, Bz, Bp, Bg, Bv, Bk)) : wpY_without post (gD, gC, Bo, Bd, Bn, Bh, Bs, Bz, Bp, Bg, Bv, Bk) x y := by
  unfold wpY_without
  exact cy_nc hx (br_f (by decide) h)
theorem cx_without2 {post : Int32 → SX → Prop} (hc : c < 16) (hn : n ≤ 20) (hx : ¬ ∃ r, r < n ∧ y = nI r) (h : post (-2) (fD, nI n, fS, fU, Ah, As, Az, Ap, Ag, Ad, An, Ao, Av, Af, At, Aw, Ak)) : wpX_without post (fD, nI n, fS, fU, Ah, As, Az, Ap, Ag, Ad, An, Ao, Av, Af, At, Aw, Ak) (nI c) y := by
  unfold wpX_without
  exact cx_cl hc (br_f (by decide) (cx_nr hn hx (br_t rfl h)))
theorem cy_without2 {post : Int32 → SY → Prop} (hc : c < 16) (hn : n ≤ 20) (hx : ¬ ∃ r, r < n ∧ y = nI r) (h : post (-2) (gD, nI n, Bo, Bd, Bn, Bh, Bs, Bz, Bp, Bg, Bv, Bk)) : wpY_without post (gD, nI n, Bo, Bd, Bn, Bh, Bs, Bz, Bp, Bg, Bv, Bk) (nI c) y := by
  unfold wpY_without
  exact cy_cl hc (br_t rfl (cy_nr hn hx (br_f (by decide) h)))
theorem cx_without {post : Int32 → SX → Prop} (G : cr_G n d hd st sz pt ng ob dq dr) (X : cr_X n d hd st sz pt ng ob dq dr fU Ah As Az Ap Ag Ad An Ao Av) (hc : c < 16) (hq : q < n)
    (H : ∀ (Av Af At Aw : Nat → Int32), post (nI (cc_sol n q hd st sz pt ng ob c)) (nI d, nI n, -1, 0, Ah, As, Az, Ap, Ag, Ad, An, Ao, Av, Af, At, Aw, Ak)) : wpX_without post (nI d, nI n, -1, fU, Ah, As, Az, Ap, Ag, Ad, An, Ao, Av, Af, At, Aw, Ak) (nI c) (nI q) := by
  have c1 : (nI c).toNatClampNeg = c := nI_clamp (by omega)
  unfold wpX_without
  refine cx_cl hc (br_f (by decide) (cx_ru hq G.1.1 (br_f (by decide) (cx_settleW G X hq (fun Av' Af' At' Aw' h1 h2 => ⟨vp_in_nI hc (by decide), ?_⟩)))))
  rw [c1, h1 c hc]
  exact H Av' Af' At' Aw'
theorem cy_without {post : Int32 → SY → Prop} (G : cr_G n d hd st sz pt ng ob dq dr) (Y : cr_Y n d hd st sz pt ng ob dq dr Bo Bd Bn Bh Bs Bz Bp Bg) (hc : c < 16) (hq : q < n)
    (H : ∀ Bv : Nat → Int32, post (nI (cc_sol n q hd st sz pt ng ob c)) (nI d, nI n, Bo, Bd, Bn, Bh, Bs, Bz, Bp, Bg, Bv, Bk)) : wpY_without post (nI d, nI n, Bo, Bd, Bn, Bh, Bs, Bz, Bp, Bg, Bv, Bk) (nI c) (nI q) := by
  have c1 : (nI c).toNatClampNeg = c := nI_clamp (by omega)
  unfold wpY_without
  refine cy_cl hc (br_t rfl (cy_ru hq G.1.1 (br_t rfl (cy_allW G Y hq (fun Bv' h1 h2 => ⟨vp_in_nI hc (by decide), ?_⟩)))))
  rw [c1, h1 c hc]
  exact H Bv'
theorem i_vc_without {k : Nat} {u : SX} {v : SY} (I : i_Rel k u v) (hk : k + 4 ≤ 2048) (v1 : Int32) (v2 : Int32) : wpX_without (fun r u' => wpY_without (fun r' v' => r' = r ∧ i_Rel (k + 4) u' v') v v1 v2) u v1 v2 := by
  refine cr_el (P := fun u v => wpX_without (fun r u' => wpY_without (fun r' v' => r' = r ∧ i_Rel (k + 4) u' v') v v1 v2) u v1 v2) ?_ I
  intro n d hd st sz pt ng ob dq dr fU Ah As Az Ap Ag Ad An Ao Av Af At Aw Ak Bo Bd Bn Bh Bs Bz Bp Bg Bv Bk G X Y
  have hn : n ≤ 20 := G.1.1
  by_cases hc : ∃ c, c < 16 ∧ v1 = nI c
  · obtain ⟨c, hc, rfl⟩ := hc
    by_cases he : ∃ r, r < n ∧ v2 = nI r
    · obtain ⟨q, hq, rfl⟩ := he
      exact cx_without G X hc hq (fun Av' Af' At' Aw' => cy_without G Y hc hq (fun Bv' => ⟨rfl, cr_in G (cx_old X X.2.2.2.1) Y⟩))
    · exact cx_without2 hc hn he (cy_without2 hc hn he ⟨rfl, cr_in G X Y⟩)
  · exact cx_without1 hc (cy_without1 hc ⟨rfl, cr_in G X Y⟩)
theorem cx_yield1 {post : Int32 → SX → Prop} (hn : n ≤ 20) (hx : ¬ ∃ r, r < n ∧ x = nI r) (h : post (-1) (fD, nI n, fS, fU, Ah, As, Az, Ap, Ag, Ad, An, Ao, Av, Af, At, Aw, Ak)) : wpX_yield post (fD, nI n, fS, fU, Ah, As, Az, Ap, Ag, Ad, An, Ao, Av, Af, At, Aw, Ak) x := by
  unfold wpX_yield
  exact cx_nr hn hx (br_t rfl h)
theorem cy_yield1 {post : Int32 → SY → Prop} (hn : n ≤ 20) (hx : ¬ ∃ r, r < n ∧ x = nI r) (h : post (-1) (gD, nI n, Bo, Bd, Bn, Bh, Bs, Bz, Bp, Bg, Bv, Bk)) : wpY_yield post (gD, nI n, Bo, Bd, Bn, Bh, Bs, Bz, Bp, Bg, Bv, Bk) x := by
  unfold wpY_yield
  exact cy_nr hn hx (br_f (by decide) h)
theorem cx_yield {post : Int32 → SX → Prop} (G : cr_G n d hd st sz pt ng ob dq dr) (X : cr_X n d hd st sz pt ng ob dq dr fU Ah As Az Ap Ag Ad An Ao Av) (hr : r < n) (H : ∀ (fU : Int32) (Av Af At Aw : Nat → Int32), ¬ fU = 0 → cr_VA n hd st sz pt ng ob Av → post (nI (cc_wo (cc_sol n 20 hd st sz pt ng ob) st sz pt ng r)) (nI d, nI n, -1, fU, Ah, As, Az, Ap, Ag, Ad, An, Ao, Av, Af, At, Aw, Ak)) : wpX_yield post (nI d, nI n, -1, fU, Ah, As, Az, Ap, Ag, Ad, An, Ao, Av, Af, At, Aw, Ak) (nI r) := by
  unfold wpX_yield
  exact cx_ru hr G.1.1 (br_f (by decide) (cx_refresh G X (fun fU' Av' Af' At' Aw' hu hv => cx_worth G.1 X.1 hv.1 (cr_bd G hv) hr (H fU' Av' Af' At' Aw' hu hv))))
theorem cy_yield {post : Int32 → SY → Prop} (G : cr_G n d hd st sz pt ng ob dq dr) (Y : cr_Y n d hd st sz pt ng ob dq dr Bo Bd Bn Bh Bs Bz Bp Bg) (hr : r < n) (H : ∀ Bv : Nat → Int32, post (nI (cc_wo (cc_sol n 20 hd st sz pt ng ob) st sz pt ng r)) (nI d, nI n, Bo, Bd, Bn, Bh, Bs, Bz, Bp, Bg, Bv, Bk)) : wpY_yield post (nI d, nI n, Bo, Bd, Bn, Bh, Bs, Bz, Bp, Bg, Bv, Bk) (nI r) := by
  unfold wpY_yield
  exact cy_ru hr G.1.1 (br_t rfl (cy_all G Y (fun Bv' hv => cy_asks G.1 Y.1 hv.1 (cr_bd G hv) hr (H Bv'))))
theorem i_vc_yield {k : Nat} {u : SX} {v : SY} (I : i_Rel k u v) (hk : k + 4 ≤ 2048) (v1 : Int32) : wpX_yield (fun r u' => wpY_yield (fun r' v' => r' = r ∧ i_Rel (k + 4) u' v') v v1) u v1 := by
  refine cr_el (P := fun u v => wpX_yield (fun r u' => wpY_yield (fun r' v' => r' = r ∧ i_Rel (k + 4) u' v') v v1) u v1) ?_ I
  intro n d hd st sz pt ng ob dq dr fU Ah As Az Ap Ag Ad An Ao Av Af At Aw Ak Bo Bd Bn Bh Bs Bz Bp Bg Bv Bk G X Y
  have hn : n ≤ 20 := G.1.1
  by_cases hc : ∃ r, r < n ∧ v1 = nI r
  · obtain ⟨r, hr, rfl⟩ := hc
    exact cx_yield G X hr (fun fU' Av' Af' At' Aw' hu hv => cy_yield G Y hr (fun Bv' => ⟨rfl, cr_in G (cx_cur X hv) Y⟩))
  · exact cx_yield1 hn hc (cy_yield1 hn hc ⟨rfl, cr_in G X Y⟩)
end
end
section
/-! the questions that run over the values or the rules: supporter, atLeast, strongest, essential, influence -/
def cr_sup (V hd st sz pt ng : Nat → Nat) (c : Nat) : Nat → Nat → Int32
  | 0, _ => -2
  | m + 1, q => if hd q = c ∧ 0 < V c ∧ cc_wo V st sz pt ng q = V c then nI q else cr_sup V hd st sz pt ng c m (q + 1)
def cr_al (V : Nat → Nat) (b : Int32) : Nat → Nat → Int32 → Int32
  | 0, _, x => x
  | m + 1, c, x => if nI (V c) < b then cr_al V b m (c + 1) x else cr_al V b m (c + 1) (x + 1)
def cr_sg (V : Nat → Nat) : Nat → Nat → Nat → Nat
  | 0, b, _ => b
  | m + 1, b, c => if V c ≤ V b then cr_sg V m b (c + 1) else cr_sg V m c (c + 1)
def cr_ch (V W : Nat → Nat) : Nat → Nat → Int32 → Int32
  | 0, _, x => x
  | m + 1, c, x => if V c = W c then cr_ch V W m (c + 1) x else cr_ch V W m (c + 1) (x + 1)
noncomputable def cr_es (n : Nat) (hd st sz pt ng ob : Nat → Nat) : Nat → Nat → Int32 → Int32
  | 0, _, x => x
  | m + 1, q, x => if cr_ch (cc_sol n 20 hd st sz pt ng ob) (cc_sol n q hd st sz pt ng ob) 16 0 0 ≤ 0 then cr_es n hd st sz pt ng ob m (q + 1) x else cr_es n hd st sz pt ng ob m (q + 1) (x + 1)
section
variable {V W st sz pt ng hd ob dq dr : Nat → Nat} {n d k c e r s q l : Nat} {x y b : Int32} {fD fC fS fU : Int32} {Ah As Az Ap Ag Ad An Ao Av Af At Aw Ak : Nat → Int32} {gD gC : Int32} {Bo Bd Bn Bh Bs Bz Bp Bg Bv Bk : Nat → Int32}
theorem cr_sup_s (m : Nat) : cr_sup V hd st sz pt ng c (m + 1) q = if hd q = c ∧ 0 < V c ∧ cc_wo V st sz pt ng q = V c then nI q else cr_sup V hd st sz pt ng c m (q + 1) := rfl
theorem cr_al_s (m : Nat) : cr_al V b (m + 1) c x = if nI (V c) < b then cr_al V b m (c + 1) x else cr_al V b m (c + 1) (x + 1) := rfl
theorem cr_sg_s (m : Nat) : cr_sg V (m + 1) e c = if V c ≤ V e then cr_sg V m e (c + 1) else cr_sg V m c (c + 1) := rfl
theorem cr_ch_s (m : Nat) : cr_ch V W (m + 1) c x = if V c = W c then cr_ch V W m (c + 1) x else cr_ch V W m (c + 1) (x + 1) := rfl
theorem cr_es_s (m : Nat) : cr_es n hd st sz pt ng ob (m + 1) q x = if cr_ch (cc_sol n 20 hd st sz pt ng ob) (cc_sol n q hd st sz pt ng ob) 16 0 0 ≤ 0 then cr_es n hd st sz pt ng ob m (q + 1) x else cr_es n hd st sz pt ng ob m (q + 1) (x + 1) := rfl
theorem cx_sup15 {post : Int32 → SX → Prop} (D : cc_D n hd st sz pt ng) (R : cc_TR n Ah As Az Ap Ag hd st sz pt ng) (TV : cc_TA 16 Av V) (VB : ∀ c, c < 16 → V c ≤ 100) (hc : c < 16) :
    ∀ m q, q + m = n → post (cr_sup V hd st sz pt ng c m q) (fD, nI n, fS, fU, Ah, As, Az, Ap, Ag, Ad, An, Ao, Av, Af, At, Aw, Ak) → wX_supporter_15 post (nI c) fD (nI n) fS fU Ah As Az Ap Ag Ad An Ao Av Af At Aw Ak (m + 1) (nI q) := by
  have hn := D.1
  have c1 : (nI c).toNatClampNeg = c := nI_clamp (by omega)
  have i1 : vp_in (nI c) 16 := vp_in_nI hc (by decide)
  have ev : Av (nI c).toNatClampNeg = nI (V c) := by rw [c1]; exact TV c hc
  have vb := VB c hc
  intro m
  induction m with
  | zero =>
    intro q hq hp
    rw [wX_supporter_15]
    exact br_t (nI_le (by omega) (by omega)) hp
  | succ m ih =>
    intro q hq hp
    have hqn : q < n := by omega
    obtain ⟨d1, d2, d3, d4, d5⟩ := D.2 q hqn
    have hw := cc_wo_100 (V := V) (sz := sz) (pt := pt) (ng := ng) d3
    have c2 : (nI q).toNatClampNeg = q := nI_clamp (by omega)
    have eh : Ah (nI q).toNatClampNeg = nI (hd q) := by rw [c2]; exact (R q hqn).1
    have hnx : ¬ (hd q = c ∧ 0 < V c ∧ cc_wo V st sz pt ng q = V c) → wX_supporter_15 post (nI c) fD (nI n) fS fU Ah As Az Ap Ag Ad An Ao Av Af At Aw Ak (m + 1) (nI (q + 1)) := by
      intro z
      rw [cr_sup_s, if_neg z] at hp
      exact ih (q + 1) (by omega) hp
    rw [wX_supporter_15]
    refine br_f (nI_ge hqn (by omega)) ⟨vp_in_nI (by omega) (by decide), ?_⟩
    rw [eh, ev]
    refine pk_eq (hd q) c (fun z1 => ⟨i1, ?_⟩) (fun z1 => nm_r (nI_1 q) (hnx fun z => z1 z.1)) rfl rfl (by omega) (by omega)
    refine pk_le (V c) 0 (fun z2 => nm_r (nI_1 q) (hnx fun z => by have := z.2.1; omega)) (fun z2 => ?_) rfl rfl (by omega) (by omega)
    refine cx_worth D R TV VB hqn ⟨i1, ?_⟩
    refine pk_eq (cc_wo V st sz pt ng q) (V c) (fun z3 => ?_) (fun z3 => nm_r (nI_1 q) (hnx fun z => z3 z.2.2)) rfl rfl (by omega) (by omega)
    rw [cr_sup_s, if_pos ⟨z1, z2, z3⟩] at hp
    exact hp
theorem cy_sup19 {post : Int32 → SY → Prop} (D : cc_D n hd st sz pt ng) (R : cc_TR n Bh Bs Bz Bp Bg hd st sz pt ng) (TV : cc_TA 16 Bv V) (VB : ∀ c, c < 16 → V c ≤ 100) (hc : c < 16) :
    ∀ m q, q + m = n → post (cr_sup V hd st sz pt ng c m q) (gD, nI n, Bo, Bd, Bn, Bh, Bs, Bz, Bp, Bg, Bv, Bk) → wY_supporter_19 post (nI c) gD (nI n) Bo Bd Bn Bh Bs Bz Bp Bg Bv Bk (m + 1) (nI q) := by
  have hn := D.1
  have c1 : (nI c).toNatClampNeg = c := nI_clamp (by omega)
  have i1 : vp_in (nI c) 16 := vp_in_nI hc (by decide)
  have ev : Bv (nI c).toNatClampNeg = nI (V c) := by rw [c1]; exact TV c hc
  have vb := VB c hc
  intro m
  induction m with
  | zero =>
    intro q hq hp
    rw [wY_supporter_19]
    exact br_t (nI_le (by omega) (by omega)) hp
  | succ m ih =>
    intro q hq hp
    have hqn : q < n := by omega
    obtain ⟨d1, d2, d3, d4, d5⟩ := D.2 q hqn
    have hw := cc_wo_100 (V := V) (sz := sz) (pt := pt) (ng := ng) d3
    have c2 : (nI q).toNatClampNeg = q := nI_clamp (by omega)
    have eh : Bh (nI q).toNatClampNeg = nI (hd q) := by rw [c2]; exact (R q hqn).1
    have hnx : ¬ (hd q = c ∧ 0 < V c ∧ cc_wo V st sz pt ng q = V c) → wY_supporter_19 post (nI c) gD (nI n) Bo Bd Bn Bh Bs Bz Bp Bg Bv Bk (m + 1) (nI (q + 1)) := by
      intro z
      rw [cr_sup_s, if_neg z] at hp
      exact ih (q + 1) (by omega) hp
    rw [wY_supporter_19]
    refine br_f (nI_ge hqn (by omega)) (br_f (nI_ge (b := 20) (by omega) (by decide)) ⟨vp_in_nI (by omega) (by decide), ?_⟩)
    rw [eh, ev]
    refine pk_eq (hd q) c (fun z1 => ⟨i1, ?_⟩) (fun z1 => nm_r (nI_1 q) (hnx fun z => z1 z.1)) rfl rfl (by omega) (by omega)
    refine pk_le (V c) 0 (fun z2 => nm_r (nI_1 q) (hnx fun z => by have := z.2.1; omega)) (fun z2 => ?_) rfl rfl (by omega) (by omega)
    refine cy_asks D R TV VB hqn ⟨i1, ?_⟩
    refine pk_eq (cc_wo V st sz pt ng q) (V c) (fun z3 => ?_) (fun z3 => nm_r (nI_1 q) (hnx fun z => z3 z.2.2)) rfl rfl (by omega) (by omega)
    rw [cr_sup_s, if_pos ⟨z1, z2, z3⟩] at hp
    exact hp
theorem cx_supporter1 {post : Int32 → SX → Prop} (hx : ¬ ∃ c, c < 16 ∧ x = nI c) (h : post (-1) (fD, fC, fS, fU, Ah, As, Az, Ap, Ag, Ad, An, Ao, Av, Af, At, Aw, Ak)) : wpX_supporter post (fD, fC, fS, fU, Ah, As, Az, Ap, Ag, Ad, An, Ao, Av, Af, At, Aw, Ak) x := by
  unfold wpX_supporter
  exact cx_nc hx (br_t rfl h)
theorem cy_supporter1 {post : Int32 → SY → Prop} (hx : ¬ ∃ c, c < 16 ∧ x = nI c) (h : post (-1) (gD, gC, Bo, Bd, Bn, Bh, Bs, Bz, Bp, Bg, Bv, Bk)) : wpY_supporter post (gD, gC, Bo, Bd, Bn, Bh, Bs, Bz, Bp, Bg, Bv, Bk) x := by
  unfold wpY_supporter
  exact cy_nc hx (br_f (by decide) h)
theorem cx_supporter {post : Int32 → SX → Prop} (G : cr_G n d hd st sz pt ng ob dq dr) (X : cr_X n d hd st sz pt ng ob dq dr fU Ah As Az Ap Ag Ad An Ao Av) (hc : c < 16) (H : ∀ (fU : Int32) (Av Af At Aw : Nat → Int32), ¬ fU = 0 → cr_VA n hd st sz pt ng ob Av → post (cr_sup (cc_sol n 20 hd st sz pt ng ob) hd st sz pt ng c n 0) (nI d, nI n, -1, fU, Ah, As, Az, Ap, Ag, Ad, An, Ao, Av, Af, At, Aw, Ak)) : wpX_supporter post (nI d, nI n, -1, fU, Ah, As, Az, Ap, Ag, Ad, An, Ao, Av, Af, At, Aw, Ak) (nI c) := by
  unfold wpX_supporter
  exact cx_cl hc (br_f (by decide) (cx_refresh G X (fun fU' Av' Af' At' Aw' hu hv => ⟨n + 1, cx_sup15 G.1 X.1 hv.1 (cr_bd G hv) hc n 0 (Nat.zero_add n) (H fU' Av' Af' At' Aw' hu hv)⟩)))
theorem cy_supporter {post : Int32 → SY → Prop} (G : cr_G n d hd st sz pt ng ob dq dr) (Y : cr_Y n d hd st sz pt ng ob dq dr Bo Bd Bn Bh Bs Bz Bp Bg) (hc : c < 16) (H : ∀ Bv : Nat → Int32, post (cr_sup (cc_sol n 20 hd st sz pt ng ob) hd st sz pt ng c n 0) (nI d, nI n, Bo, Bd, Bn, Bh, Bs, Bz, Bp, Bg, Bv, Bk)) : wpY_supporter post (nI d, nI n, Bo, Bd, Bn, Bh, Bs, Bz, Bp, Bg, Bv, Bk) (nI c) := by
  unfold wpY_supporter
  exact cy_cl hc (br_t rfl (cy_all G Y (fun Bv' hv => ⟨n + 1, cy_sup19 G.1 Y.1 hv.1 (cr_bd G hv) hc n 0 (Nat.zero_add n) (H Bv')⟩)))
theorem i_vc_supporter {k : Nat} {u : SX} {v : SY} (I : i_Rel k u v) (hk : k + 4 ≤ 2048) (v1 : Int32) : wpX_supporter (fun r u' => wpY_supporter (fun r' v' => r' = r ∧ i_Rel (k + 4) u' v') v v1) u v1 := by
  refine cr_el (P := fun u v => wpX_supporter (fun r u' => wpY_supporter (fun r' v' => r' = r ∧ i_Rel (k + 4) u' v') v v1) u v1) ?_ I
  intro n d hd st sz pt ng ob dq dr fU Ah As Az Ap Ag Ad An Ao Av Af At Aw Ak Bo Bd Bn Bh Bs Bz Bp Bg Bv Bk G X Y
  have hn : n ≤ 20 := G.1.1
  by_cases hc : ∃ c, c < 16 ∧ v1 = nI c
  · obtain ⟨c, hc, rfl⟩ := hc
    exact cx_supporter G X hc (fun fU' Av' Af' At' Aw' hu hv => cy_supporter G Y hc (fun Bv' => ⟨rfl, cr_in G (cx_cur X hv) Y⟩))
  · exact cx_supporter1 hc (cy_supporter1 hc ⟨rfl, cr_in G X Y⟩)
theorem cx_al8 {post : Int32 → SX → Prop} (TV : cc_TA 16 Av V) : ∀ m c (x : Int32), c + m = 16 → post (cr_al V b m c x) (fD, fC, fS, fU, Ah, As, Az, Ap, Ag, Ad, An, Ao, Av, Af, At, Aw, Ak) → wX_atLeast_8 post b fD fC fS fU Ah As Az Ap Ag Ad An Ao Av Af At Aw Ak (m + 1) x (nI c) := by
  intro m
  induction m with
  | zero =>
    intro c x hc hp
    have hc' : c = 16 := by omega
    subst hc'
    rw [wX_atLeast_8]
    exact br_t (nI_le (a := 16) (b := 16) (Nat.le_refl _) (by decide)) hp
  | succ m ih =>
    intro c x hc hp
    have c1 : (nI c).toNatClampNeg = c := nI_clamp (by omega)
    rw [wX_atLeast_8]
    refine br_f (nI_ge (b := 16) (by omega) (by decide)) ⟨vp_in_nI (by omega) (by decide), ?_⟩
    rw [c1, TV c (by omega)]
    refine br_c (fun z => nm_r (nI_1 c) (ih (c + 1) x (by omega) ?_)) (fun z => nm_e (nm_r (nI_1 c) (ih (c + 1) (x + 1) (by omega) ?_)))
    · rw [cr_al_s, if_pos z] at hp
      exact hp
    · rw [cr_al_s, if_neg z] at hp
      exact hp
theorem cy_al11 {post : Int32 → SY → Prop} (TV : cc_TA 16 Bv V) : ∀ m c (x : Int32), c + m = 16 → post (cr_al V b m c x) (gD, gC, Bo, Bd, Bn, Bh, Bs, Bz, Bp, Bg, Bv, Bk) → wY_atLeast_11 post b gD gC Bo Bd Bn Bh Bs Bz Bp Bg Bv Bk (m + 1) x (nI c) := by
  intro m
  induction m with
  | zero =>
    intro c x hc hp
    have hc' : c = 16 := by omega
    subst hc'
    rw [wY_atLeast_11]
    exact br_t (nI_le (a := 16) (b := 16) (Nat.le_refl _) (by decide)) hp
  | succ m ih =>
    intro c x hc hp
    have c1 : (nI c).toNatClampNeg = c := nI_clamp (by omega)
    rw [wY_atLeast_11]
    refine br_f (nI_ge (b := 16) (by omega) (by decide)) ⟨vp_in_nI (by omega) (by decide), ?_⟩
    rw [c1, TV c (by omega)]
    refine br_c (fun z => nm_r (nI_1 c) (ih (c + 1) x (by omega) ?_)) (fun z => nm_e (nm_r (nI_1 c) (ih (c + 1) (x + 1) (by omega) ?_)))
    · rw [cr_al_s, if_pos z] at hp
      exact hp
    · rw [cr_al_s, if_neg z] at hp
      exact hp
theorem cx_atLeast {post : Int32 → SX → Prop} (G : cr_G n d hd st sz pt ng ob dq dr) (X : cr_X n d hd st sz pt ng ob dq dr fU Ah As Az Ap Ag Ad An Ao Av) (H : ∀ (fU : Int32) (Av Af At Aw : Nat → Int32), ¬ fU = 0 → cr_VA n hd st sz pt ng ob Av → post (cr_al (cc_sol n 20 hd st sz pt ng ob) b 16 0 0) (nI d, nI n, -1, fU, Ah, As, Az, Ap, Ag, Ad, An, Ao, Av, Af, At, Aw, Ak)) : wpX_atLeast post (nI d, nI n, -1, fU, Ah, As, Az, Ap, Ag, Ad, An, Ao, Av, Af, At, Aw, Ak) b := by
  unfold wpX_atLeast
  exact cx_refresh G X (fun fU' Av' Af' At' Aw' hu hv => ⟨16 + 1, cx_al8 hv.1 16 0 0 rfl (H fU' Av' Af' At' Aw' hu hv)⟩)
theorem cy_atLeast {post : Int32 → SY → Prop} (G : cr_G n d hd st sz pt ng ob dq dr) (Y : cr_Y n d hd st sz pt ng ob dq dr Bo Bd Bn Bh Bs Bz Bp Bg) (H : ∀ Bv : Nat → Int32, post (cr_al (cc_sol n 20 hd st sz pt ng ob) b 16 0 0) (nI d, nI n, Bo, Bd, Bn, Bh, Bs, Bz, Bp, Bg, Bv, Bk)) : wpY_atLeast post (nI d, nI n, Bo, Bd, Bn, Bh, Bs, Bz, Bp, Bg, Bv, Bk) b := by
  unfold wpY_atLeast
  exact cy_all G Y (fun Bv' hv => ⟨16 + 1, cy_al11 hv.1 16 0 0 rfl (H Bv')⟩)
theorem i_vc_atLeast {k : Nat} {u : SX} {v : SY} (I : i_Rel k u v) (hk : k + 4 ≤ 2048) (v1 : Int32) : wpX_atLeast (fun r u' => wpY_atLeast (fun r' v' => r' = r ∧ i_Rel (k + 4) u' v') v v1) u v1 := by
  refine cr_el (P := fun u v => wpX_atLeast (fun r u' => wpY_atLeast (fun r' v' => r' = r ∧ i_Rel (k + 4) u' v') v v1) u v1) ?_ I
  intro n d hd st sz pt ng ob dq dr fU Ah As Az Ap Ag Ad An Ao Av Af At Aw Ak Bo Bd Bn Bh Bs Bz Bp Bg Bv Bk G X Y
  have hn : n ≤ 20 := G.1.1
  exact cx_atLeast G X (fun fU' Av' Af' At' Aw' hu hv => cy_atLeast G Y (fun Bv' => ⟨rfl, cr_in G (cx_cur X hv) Y⟩))
theorem cx_sg35 {post : Int32 → SX → Prop} (TV : cc_TA 16 Av V) (VB : ∀ c, c < 16 → V c ≤ 100) (hl : l < 16) : ∀ m e c, c + m = l + 1 → e < 16 → post (nI (cr_sg V m e c)) (fD, fC, fS, fU, Ah, As, Az, Ap, Ag, Ad, An, Ao, Av, Af, At, Aw, Ak) → wX_strongest_35 post (nI l) fD fC fS fU Ah As Az Ap Ag Ad An Ao Av Af At Aw Ak (m + 1) (nI e) (nI c) := by
  intro m
  induction m with
  | zero =>
    intro e c hc he hp
    rw [wX_strongest_35]
    exact br_t (nI_lt (by omega) (by omega)) hp
  | succ m ih =>
    intro e c hc he hp
    have c1 : (nI c).toNatClampNeg = c := nI_clamp (by omega)
    have c2 : (nI e).toNatClampNeg = e := nI_clamp (by omega)
    have b1 := VB c (by omega)
    have b2 := VB e he
    rw [wX_strongest_35]
    refine br_f (nI_nlt (by omega) (by omega)) ⟨vp_in_nI (by omega) (by decide), vp_in_nI he (by decide), ?_⟩
    rw [c1, c2, TV c (by omega), TV e he]
    refine pk_le (V c) (V e) (fun z => nm_r (nI_1 c) (ih e (c + 1) (by omega) he ?_)) (fun z => nm_r (nI_1 c) (ih c (c + 1) (by omega) (by omega) ?_)) rfl rfl (by omega) (by omega)
    · rw [cr_sg_s, if_pos z] at hp
      exact hp
    · rw [cr_sg_s, if_neg (by omega)] at hp
      exact hp
theorem cy_sg38 {post : Int32 → SY → Prop} (TV : cc_TA 16 Bv V) (VB : ∀ c, c < 16 → V c ≤ 100) (hl : l < 16) : ∀ m e c, c + m = l + 1 → e < 16 → post (nI (cr_sg V m e c)) (gD, gC, Bo, Bd, Bn, Bh, Bs, Bz, Bp, Bg, Bv, Bk) → wY_strongest_38 post (nI l) gD gC Bo Bd Bn Bh Bs Bz Bp Bg Bv Bk (m + 1) (nI e) (nI c) := by
  intro m
  induction m with
  | zero =>
    intro e c hc he hp
    rw [wY_strongest_38]
    exact br_t (nI_lt (by omega) (by omega)) hp
  | succ m ih =>
    intro e c hc he hp
    have c1 : (nI c).toNatClampNeg = c := nI_clamp (by omega)
    have c2 : (nI e).toNatClampNeg = e := nI_clamp (by omega)
    have b1 := VB c (by omega)
    have b2 := VB e he
    rw [wY_strongest_38]
    refine br_f (nI_nlt (by omega) (by omega)) ⟨vp_in_nI (by omega) (by decide), vp_in_nI he (by decide), ?_⟩
    rw [c1, c2, TV c (by omega), TV e he]
    refine pk_le (V c) (V e) (fun z => nm_r (nI_1 c) (ih e (c + 1) (by omega) he ?_)) (fun z => nm_r (nI_1 c) (ih c (c + 1) (by omega) (by omega) ?_)) rfl rfl (by omega) (by omega)
    · rw [cr_sg_s, if_pos z] at hp
      exact hp
    · rw [cr_sg_s, if_neg (by omega)] at hp
      exact hp
theorem cx_strongest1 {post : Int32 → SX → Prop} (hx : (¬ ∃ c, c < 16 ∧ x = nI c) ∨ ¬ ∃ c, c < 16 ∧ y = nI c) (h : post (-1) (fD, fC, fS, fU, Ah, As, Az, Ap, Ag, Ad, An, Ao, Av, Af, At, Aw, Ak)) : wpX_strongest post (fD, fC, fS, fU, Ah, As, Az, Ap, Ag, Ad, An, Ao, Av, Af, At, Aw, Ak) x y := by
  unfold wpX_strongest
  by_cases hc : ∃ c, c < 16 ∧ x = nI c
  · obtain ⟨c, hc, rfl⟩ := hc
    exact cx_cl hc (br_f (by decide) (cx_nc (hx.resolve_left (fun z => z ⟨c, hc, rfl⟩)) (br_t rfl h)))
  · exact cx_nc hc (br_t rfl h)
theorem cy_strongest1 {post : Int32 → SY → Prop} (hx : (¬ ∃ c, c < 16 ∧ x = nI c) ∨ ¬ ∃ c, c < 16 ∧ y = nI c) (h : post (-1) (gD, gC, Bo, Bd, Bn, Bh, Bs, Bz, Bp, Bg, Bv, Bk)) : wpY_strongest post (gD, gC, Bo, Bd, Bn, Bh, Bs, Bz, Bp, Bg, Bv, Bk) x y := by
  unfold wpY_strongest
  by_cases hc : ∃ c, c < 16 ∧ x = nI c
  · obtain ⟨c, hc, rfl⟩ := hc
    exact cy_cl hc (br_t rfl (cy_nc (hx.resolve_left (fun z => z ⟨c, hc, rfl⟩)) (br_f (by decide) h)))
  · exact cy_nc hc (br_f (by decide) h)
theorem cx_strongest2 {post : Int32 → SX → Prop} (hc : c < 16) (hl : l < 16) (hlt : l < c) (h : post (-2) (fD, fC, fS, fU, Ah, As, Az, Ap, Ag, Ad, An, Ao, Av, Af, At, Aw, Ak)) : wpX_strongest post (fD, fC, fS, fU, Ah, As, Az, Ap, Ag, Ad, An, Ao, Av, Af, At, Aw, Ak) (nI c) (nI l) := by
  unfold wpX_strongest
  exact cx_cl hc (br_f (by decide) (cx_cl hl (br_f (by decide) (br_f (nI_ge hlt (by omega)) h))))
theorem cy_strongest2 {post : Int32 → SY → Prop} (hc : c < 16) (hl : l < 16) (hlt : l < c) (h : post (-2) (gD, gC, Bo, Bd, Bn, Bh, Bs, Bz, Bp, Bg, Bv, Bk)) : wpY_strongest post (gD, gC, Bo, Bd, Bn, Bh, Bs, Bz, Bp, Bg, Bv, Bk) (nI c) (nI l) := by
  unfold wpY_strongest
  exact cy_cl hc (br_t rfl (cy_cl hl (br_t rfl (br_f (nI_ge hlt (by omega)) h))))
theorem cx_strongest {post : Int32 → SX → Prop} (G : cr_G n d hd st sz pt ng ob dq dr) (X : cr_X n d hd st sz pt ng ob dq dr fU Ah As Az Ap Ag Ad An Ao Av) (hc : c < 16) (hl : l < 16) (hle : c ≤ l) (H : ∀ (fU : Int32) (Av Af At Aw : Nat → Int32), ¬ fU = 0 → cr_VA n hd st sz pt ng ob Av → post (nI (cr_sg (cc_sol n 20 hd st sz pt ng ob) (l - c) c (c + 1))) (nI d, nI n, -1, fU, Ah, As, Az, Ap, Ag, Ad, An, Ao, Av, Af, At, Aw, Ak)) : wpX_strongest post (nI d, nI n, -1, fU, Ah, As, Az, Ap, Ag, Ad, An, Ao, Av, Af, At, Aw, Ak) (nI c) (nI l) := by
  unfold wpX_strongest
  exact cx_cl hc (br_f (by decide) (cx_cl hl (br_f (by decide) (br_t (nI_le hle (by omega)) (cx_refresh G X (fun fU' Av' Af' At' Aw' hu hv => nm_r (nI_1 c) ⟨l - c + 1, cx_sg35 hv.1 (cr_bd G hv) hl (l - c) c (c + 1) (by omega) hc (H fU' Av' Af' At' Aw' hu hv)⟩))))))
theorem cy_strongest {post : Int32 → SY → Prop} (G : cr_G n d hd st sz pt ng ob dq dr) (Y : cr_Y n d hd st sz pt ng ob dq dr Bo Bd Bn Bh Bs Bz Bp Bg) (hc : c < 16) (hl : l < 16) (hle : c ≤ l) (H : ∀ Bv : Nat → Int32, post (nI (cr_sg (cc_sol n 20 hd st sz pt ng ob) (l - c) c (c + 1))) (nI d, nI n, Bo, Bd, Bn, Bh, Bs, Bz, Bp, Bg, Bv, Bk)) : wpY_strongest post (nI d, nI n, Bo, Bd, Bn, Bh, Bs, Bz, Bp, Bg, Bv, Bk) (nI c) (nI l) := by
  unfold wpY_strongest
  refine cy_cl hc (br_t rfl (cy_cl hl (br_t rfl (br_t (nI_le hle (by omega)) (cy_all G Y (fun Bv' hv => ⟨l - c + 1 + 1, cy_sg38 hv.1 (cr_bd G hv) hl (l - c + 1) c c (by omega) hc ?_⟩))))))
  rw [cr_sg_s, if_pos (Nat.le_refl _)]
  exact H Bv'
theorem i_vc_strongest {k : Nat} {u : SX} {v : SY} (I : i_Rel k u v) (hk : k + 4 ≤ 2048) (v1 : Int32) (v2 : Int32) : wpX_strongest (fun r u' => wpY_strongest (fun r' v' => r' = r ∧ i_Rel (k + 4) u' v') v v1 v2) u v1 v2 := by
  refine cr_el (P := fun u v => wpX_strongest (fun r u' => wpY_strongest (fun r' v' => r' = r ∧ i_Rel (k + 4) u' v') v v1 v2) u v1 v2) ?_ I
  intro n d hd st sz pt ng ob dq dr fU Ah As Az Ap Ag Ad An Ao Av Af At Aw Ak Bo Bd Bn Bh Bs Bz Bp Bg Bv Bk G X Y
  have hn : n ≤ 20 := G.1.1
  by_cases hc : ∃ c, c < 16 ∧ v1 = nI c
  · by_cases he : ∃ c, c < 16 ∧ v2 = nI c
    · obtain ⟨c, hc, rfl⟩ := hc
      obtain ⟨l, hl, rfl⟩ := he
      by_cases hle : c ≤ l
      · exact cx_strongest G X hc hl hle (fun fU' Av' Af' At' Aw' hu hv => cy_strongest G Y hc hl hle (fun Bv' => ⟨rfl, cr_in G (cx_cur X hv) Y⟩))
      · exact cx_strongest2 hc hl (by omega) (cy_strongest2 hc hl (by omega) ⟨rfl, cr_in G X Y⟩)
    · exact cx_strongest1 (Or.inr he) (cy_strongest1 (Or.inr he) ⟨rfl, cr_in G X Y⟩)
  · exact cx_strongest1 (Or.inl hc) (cy_strongest1 (Or.inl hc) ⟨rfl, cr_in G X Y⟩)
end
end
section
/-! keepValues, changes, essential, influence -/
section
variable {V W st sz pt ng hd ob dq dr : Nat → Nat} {n d k c e r s q l : Nat} {x y b : Int32} {fD fC fS fU : Int32} {Ah As Az Ap Ag Ad An Ao Av Af At Aw Ak : Nat → Int32} {gD gC : Int32} {Bo Bd Bn Bh Bs Bz Bp Bg Bv Bk : Nat → Int32}
theorem cx_keep6 {post : SX → Prop} (TV : cc_TA 16 Av V) (H : ∀ Ak : Nat → Int32, cc_TA 16 Ak V → post (fD, fC, fS, fU, Ah, As, Az, Ap, Ag, Ad, An, Ao, Av, Af, At, Aw, Ak)) : ∀ (m c : Nat) (Ak : Nat → Int32), c + m = 16 → cc_TA c Ak V → wX_keepValues_6 post fD fC fS fU (m + 1) (nI c) Ah As Az Ap Ag Ad An Ao Av Af At Aw Ak := by
  intro m
  induction m with
  | zero =>
    intro c Ak hc hp
    have hc' : c = 16 := by omega
    subst hc'
    rw [wX_keepValues_6]
    exact br_t (nI_le (a := 16) (b := 16) (Nat.le_refl _) (by decide)) (H Ak hp)
  | succ m ih =>
    intro c Ak hc hp
    have c1 : (nI c).toNatClampNeg = c := nI_clamp (by omega)
    have i1 : vp_in (nI c) 16 := vp_in_nI (by omega) (by decide)
    rw [wX_keepValues_6]
    exact br_f (nI_ge (b := 16) (by omega) (by decide)) ⟨i1, i1, nm_r (e' := upd Ak c (nI (V c))) (by rw [c1, TV c (by omega)]) (nm_r (nI_1 c) (ih (c + 1) _ (by omega) (ca_ext hp)))⟩
theorem cy_keep9 {post : SY → Prop} (TV : cc_TA 16 Bv V) (H : ∀ Bk : Nat → Int32, cc_TA 16 Bk V → post (gD, gC, Bo, Bd, Bn, Bh, Bs, Bz, Bp, Bg, Bv, Bk)) : ∀ (m c : Nat) (Bk : Nat → Int32), c + m = 16 → cc_TA c Bk V → wY_keep_9 post gD gC (m + 1) (nI c) Bo Bd Bn Bh Bs Bz Bp Bg Bv Bk := by
  intro m
  induction m with
  | zero =>
    intro c Bk hc hp
    have hc' : c = 16 := by omega
    subst hc'
    rw [wY_keep_9]
    exact br_t (nI_le (a := 16) (b := 16) (Nat.le_refl _) (by decide)) (H Bk hp)
  | succ m ih =>
    intro c Bk hc hp
    have c1 : (nI c).toNatClampNeg = c := nI_clamp (by omega)
    have i1 : vp_in (nI c) 16 := vp_in_nI (by omega) (by decide)
    rw [wY_keep_9]
    exact br_f (nI_ge (b := 16) (by omega) (by decide)) ⟨i1, i1, nm_r (e' := upd Bk c (nI (V c))) (by rw [c1, TV c (by omega)]) (nm_r (nI_1 c) (ih (c + 1) _ (by omega) (ca_ext hp)))⟩
theorem cx_ch4 {post : Int32 → Prop} (TK : cc_TA 16 Ak V) (TV : cc_TA 16 Av W) (VB : ∀ c, c < 16 → V c ≤ 100) (WB : ∀ c, c < 16 → W c ≤ 100) :
    ∀ m c (x : Int32), c + m = 16 → post (cr_ch V W m c x) → wX_changes_4 post fD fC fS fU Ah As Az Ap Ag Ad An Ao Av Af At Aw Ak (m + 1) x (nI c) := by
  intro m
  induction m with
  | zero =>
    intro c x hc hp
    have hc' : c = 16 := by omega
    subst hc'
    rw [wX_changes_4]
    exact br_t (nI_le (a := 16) (b := 16) (Nat.le_refl _) (by decide)) hp
  | succ m ih =>
    intro c x hc hp
    have c1 : (nI c).toNatClampNeg = c := nI_clamp (by omega)
    have i1 : vp_in (nI c) 16 := vp_in_nI (by omega) (by decide)
    have b1 := VB c (by omega)
    have b2 := WB c (by omega)
    rw [wX_changes_4]
    refine br_f (nI_ge (b := 16) (by omega) (by decide)) ⟨i1, i1, ?_⟩
    rw [c1, TK c (by omega), TV c (by omega)]
    refine pk_eq (V c) (W c) (fun z => nm_r (nI_1 c) (ih (c + 1) x (by omega) ?_)) (fun z => nm_e (nm_r (nI_1 c) (ih (c + 1) (x + 1) (by omega) ?_))) rfl rfl (by omega) (by omega)
    · rw [cr_ch_s, if_pos z] at hp
      exact hp
    · rw [cr_ch_s, if_neg z] at hp
      exact hp
theorem cy_ch4 {post : Int32 → Prop} (TK : cc_TA 16 Bk V) (TV : cc_TA 16 Bv W) (VB : ∀ c, c < 16 → V c ≤ 100) (WB : ∀ c, c < 16 → W c ≤ 100) :
    ∀ m c (x : Int32), c + m = 16 → post (cr_ch V W m c x) → wY_others_4 post gD gC Bo Bd Bn Bh Bs Bz Bp Bg Bv Bk (m + 1) x (nI c) := by
  intro m
  induction m with
  | zero =>
    intro c x hc hp
    have hc' : c = 16 := by omega
    subst hc'
    rw [wY_others_4]
    exact br_t (nI_le (a := 16) (b := 16) (Nat.le_refl _) (by decide)) hp
  | succ m ih =>
    intro c x hc hp
    have c1 : (nI c).toNatClampNeg = c := nI_clamp (by omega)
    have i1 : vp_in (nI c) 16 := vp_in_nI (by omega) (by decide)
    have b1 := VB c (by omega)
    have b2 := WB c (by omega)
    rw [wY_others_4]
    refine br_f (nI_ge (b := 16) (by omega) (by decide)) ⟨i1, i1, ?_⟩
    rw [c1, TK c (by omega), TV c (by omega)]
    refine pk_eq (W c) (V c) (fun z => nm_r (nI_1 c) (ih (c + 1) x (by omega) ?_)) (fun z => nm_e (nm_r (nI_1 c) (ih (c + 1) (x + 1) (by omega) ?_))) rfl rfl (by omega) (by omega)
    · rw [cr_ch_s, if_pos z.symm] at hp
      exact hp
    · rw [cr_ch_s, if_neg (fun w => z w.symm)] at hp
      exact hp
theorem cx_changes {post : Int32 → Prop} (TK : cc_TA 16 Ak V) (TV : cc_TA 16 Av W) (VB : ∀ c, c < 16 → V c ≤ 100) (WB : ∀ c, c < 16 → W c ≤ 100) (h : post (cr_ch V W 16 0 0)) : wpX_changes post (fD, fC, fS, fU, Ah, As, Az, Ap, Ag, Ad, An, Ao, Av, Af, At, Aw, Ak) := by
  unfold wpX_changes
  exact ⟨16 + 1, cx_ch4 TK TV VB WB 16 0 0 rfl h⟩
theorem cy_others {post : Int32 → Prop} (TK : cc_TA 16 Bk V) (TV : cc_TA 16 Bv W) (VB : ∀ c, c < 16 → V c ≤ 100) (WB : ∀ c, c < 16 → W c ≤ 100) (h : post (cr_ch V W 16 0 0)) : wpY_others post (gD, gC, Bo, Bd, Bn, Bh, Bs, Bz, Bp, Bg, Bv, Bk) := by
  unfold wpY_others
  exact ⟨16 + 1, cy_ch4 TK TV VB WB 16 0 0 rfl h⟩
theorem cx_keep {post : SX → Prop} (G : cr_G n d hd st sz pt ng ob dq dr) (X : cr_X n d hd st sz pt ng ob dq dr fU Ah As Az Ap Ag Ad An Ao Av) (H : ∀ (fU : Int32) (Av Af At Aw Ak : Nat → Int32), ¬ fU = 0 → cr_VA n hd st sz pt ng ob Av → cc_TA 16 Ak (cc_sol n 20 hd st sz pt ng ob) → post (nI d, nI n, -1, fU, Ah, As, Az, Ap, Ag, Ad, An, Ao, Av, Af, At, Aw, Ak)) : wpX_keepValues post (nI d, nI n, -1, fU, Ah, As, Az, Ap, Ag, Ad, An, Ao, Av, Af, At, Aw, Ak) := by
  unfold wpX_keepValues
  exact cx_refresh G X (fun fU' Av' Af' At' Aw' hu hv => ⟨16 + 1, cx_keep6 hv.1 (fun Ak' hk => H fU' Av' Af' At' Aw' Ak' hu hv hk) 16 0 Ak rfl (fun c hc => absurd hc (Nat.not_lt_zero c))⟩)
theorem cy_keep {post : SY → Prop} (G : cr_G n d hd st sz pt ng ob dq dr) (Y : cr_Y n d hd st sz pt ng ob dq dr Bo Bd Bn Bh Bs Bz Bp Bg) (H : ∀ Bv Bk : Nat → Int32, cr_VA n hd st sz pt ng ob Bv → cc_TA 16 Bk (cc_sol n 20 hd st sz pt ng ob) → post (nI d, nI n, Bo, Bd, Bn, Bh, Bs, Bz, Bp, Bg, Bv, Bk)) : wpY_keep post (nI d, nI n, Bo, Bd, Bn, Bh, Bs, Bz, Bp, Bg, Bv, Bk) := by
  unfold wpY_keep
  exact cy_all G Y (fun Bv' hv => ⟨16 + 1, cy_keep9 hv.1 (fun Bk' hk => H Bv' Bk' hv hk) 16 0 Bk rfl (fun c hc => absurd hc (Nat.not_lt_zero c))⟩)
theorem cx_es8 {post : Int32 → SX → Prop} (G : cr_G n d hd st sz pt ng ob dq dr) (VB : ∀ c, c < 16 → cc_sol n 20 hd st sz pt ng ob c ≤ 100) (TK : cc_TA 16 Ak (cc_sol n 20 hd st sz pt ng ob))
    (H : ∀ (fU : Int32) (Av Af At Aw : Nat → Int32), cr_X n d hd st sz pt ng ob dq dr fU Ah As Az Ap Ag Ad An Ao Av → post (cr_es n hd st sz pt ng ob n 0 0) (nI d, nI n, -1, fU, Ah, As, Az, Ap, Ag, Ad, An, Ao, Av, Af, At, Aw, Ak)) :
    ∀ (m q : Nat) (x fU : Int32) (Av Af At Aw : Nat → Int32), q + m = n → cr_es n hd st sz pt ng ob m q x = cr_es n hd st sz pt ng ob n 0 0 → cr_X n d hd st sz pt ng ob dq dr fU Ah As Az Ap Ag Ad An Ao Av → wX_essential_8 post (m + 1) x (nI q) (nI d) (nI n) (-1) fU Ah As Az Ap Ag Ad An Ao Av Af At Aw Ak := by
  have hn := G.1.1
  intro m
  induction m with
  | zero =>
    intro q x fU Av Af At Aw hq he X
    have he' : x = cr_es n hd st sz pt ng ob n 0 0 := he
    subst he'
    rw [wX_essential_8]
    exact br_t (nI_le (by omega) (by omega)) (H fU Av Af At Aw X)
  | succ m ih =>
    intro q x fU Av Af At Aw hq he X
    have hqn : q < n := by omega
    rw [wX_essential_8]
    refine br_f (nI_ge hqn (by omega)) (cx_settleW G X hqn (fun Av' Af' At' Aw' h1 h2 => cx_changes TK h1 VB (fun c hc => cc_bd G.1 G.2.2.2 h2 hc) (br_c (fun z => nm_r (nI_1 q) (ih (q + 1) x 0 Av' Af' At' Aw' (by omega) ?_ (cx_old X X.2.2.2.1))) (fun z => nm_e (nm_r (nI_1 q) (ih (q + 1) (x + 1) 0 Av' Af' At' Aw' (by omega) ?_ (cx_old X X.2.2.2.1)))))))
    · rw [cr_es_s, if_pos z] at he
      exact he
    · rw [cr_es_s, if_neg z] at he
      exact he
theorem cy_es8 {post : Int32 → SY → Prop} (G : cr_G n d hd st sz pt ng ob dq dr) (Y : cr_Y n d hd st sz pt ng ob dq dr Bo Bd Bn Bh Bs Bz Bp Bg) (VB : ∀ c, c < 16 → cc_sol n 20 hd st sz pt ng ob c ≤ 100) (TK : cc_TA 16 Bk (cc_sol n 20 hd st sz pt ng ob))
    (H : ∀ Bv : Nat → Int32, post (cr_es n hd st sz pt ng ob n 0 0) (nI d, nI n, Bo, Bd, Bn, Bh, Bs, Bz, Bp, Bg, Bv, Bk)) :
    ∀ (m q : Nat) (x : Int32) (Bv : Nat → Int32), q + m = n → cr_es n hd st sz pt ng ob m q x = cr_es n hd st sz pt ng ob n 0 0 → wY_essential_8 post (m + 1) x (nI q) (nI d) (nI n) Bo Bd Bn Bh Bs Bz Bp Bg Bv Bk := by
  have hn := G.1.1
  intro m
  induction m with
  | zero =>
    intro q x Bv hq he
    have he' : x = cr_es n hd st sz pt ng ob n 0 0 := he
    subst he'
    rw [wY_essential_8]
    exact br_t (nI_le (by omega) (by omega)) (H Bv)
  | succ m ih =>
    intro q x Bv hq he
    have hqn : q < n := by omega
    rw [wY_essential_8]
    refine br_f (nI_ge hqn (by omega)) (br_f (nI_ge (b := 20) (by omega) (by decide)) (cy_allW G Y hqn (fun Bv' h1 h2 => cy_others TK h1 VB (fun c hc => cc_bd G.1 G.2.2.2 h2 hc) (br_c (fun z => nm_r (nI_1 q) (ih (q + 1) x Bv' (by omega) ?_)) (fun z => nm_e (nm_r (nI_1 q) (ih (q + 1) (x + 1) Bv' (by omega) ?_)))))))
    · rw [cr_es_s, if_pos z] at he
      exact he
    · rw [cr_es_s, if_neg z] at he
      exact he
theorem cx_essential {post : Int32 → SX → Prop} (G : cr_G n d hd st sz pt ng ob dq dr) (X : cr_X n d hd st sz pt ng ob dq dr fU Ah As Az Ap Ag Ad An Ao Av) (H : ∀ (fU : Int32) (Av Af At Aw Ak : Nat → Int32), cr_X n d hd st sz pt ng ob dq dr fU Ah As Az Ap Ag Ad An Ao Av → post (cr_es n hd st sz pt ng ob n 0 0) (nI d, nI n, -1, fU, Ah, As, Az, Ap, Ag, Ad, An, Ao, Av, Af, At, Aw, Ak)) : wpX_essential post (nI d, nI n, -1, fU, Ah, As, Az, Ap, Ag, Ad, An, Ao, Av, Af, At, Aw, Ak) := by
  unfold wpX_essential
  exact cx_keep G X (fun fU' Av' Af' At' Aw' Ak' hu hv hk => ⟨n + 1, cx_es8 G (cr_bd G hv) hk (fun fU2 Av2 Af2 At2 Aw2 X2 => H fU2 Av2 Af2 At2 Aw2 Ak' X2) n 0 0 fU' Av' Af' At' Aw' (Nat.zero_add n) rfl (cx_cur X hv)⟩)
theorem cy_essential {post : Int32 → SY → Prop} (G : cr_G n d hd st sz pt ng ob dq dr) (Y : cr_Y n d hd st sz pt ng ob dq dr Bo Bd Bn Bh Bs Bz Bp Bg) (H : ∀ Bv Bk : Nat → Int32, post (cr_es n hd st sz pt ng ob n 0 0) (nI d, nI n, Bo, Bd, Bn, Bh, Bs, Bz, Bp, Bg, Bv, Bk)) : wpY_essential post (nI d, nI n, Bo, Bd, Bn, Bh, Bs, Bz, Bp, Bg, Bv, Bk) := by
  unfold wpY_essential
  exact cy_keep G Y (fun Bv' Bk' hv hk => ⟨n + 1, cy_es8 G Y (cr_bd G hv) hk (fun Bv2 => H Bv2 Bk') n 0 0 Bv' (Nat.zero_add n) rfl⟩)
theorem i_vc_essential {k : Nat} {u : SX} {v : SY} (I : i_Rel k u v) (hk : k + 4 ≤ 2048) : wpX_essential (fun r u' => wpY_essential (fun r' v' => r' = r ∧ i_Rel (k + 4) u' v') v) u := by
  refine cr_el (P := fun u v => wpX_essential (fun r u' => wpY_essential (fun r' v' => r' = r ∧ i_Rel (k + 4) u' v') v) u) ?_ I
  intro n d hd st sz pt ng ob dq dr fU Ah As Az Ap Ag Ad An Ao Av Af At Aw Ak Bo Bd Bn Bh Bs Bz Bp Bg Bv Bk G X Y
  have hn : n ≤ 20 := G.1.1
  exact cx_essential G X (fun fU' Av' Af' At' Aw' Ak' X' => cy_essential G Y (fun Bv' Bk' => ⟨rfl, cr_in G X' Y⟩))
theorem cx_influence1 {post : Int32 → SX → Prop} (hx : ¬ ∃ c, c < 16 ∧ x = nI c) (h : post (-1) (fD, fC, fS, fU, Ah, As, Az, Ap, Ag, Ad, An, Ao, Av, Af, At, Aw, Ak)) : wpX_influence post (fD, fC, fS, fU, Ah, As, Az, Ap, Ag, Ad, An, Ao, Av, Af, At, Aw, Ak) x := by
  unfold wpX_influence
  exact cx_nc hx (br_t rfl h)
theorem cy_influence1 {post : Int32 → SY → Prop} (hx : ¬ ∃ c, c < 16 ∧ x = nI c) (h : post (-1) (gD, gC, Bo, Bd, Bn, Bh, Bs, Bz, Bp, Bg, Bv, Bk)) : wpY_influence post (gD, gC, Bo, Bd, Bn, Bh, Bs, Bz, Bp, Bg, Bv, Bk) x := by
  unfold wpY_influence
  exact cy_nc hx (br_f (by decide) h)
theorem cx_influence {post : Int32 → SX → Prop} (G : cr_G n d hd st sz pt ng ob dq dr) (X : cr_X n d hd st sz pt ng ob dq dr fU Ah As Az Ap Ag Ad An Ao Av) (hc : c < 16)
    (H : ∀ (Ao Av Af At Aw Ak : Nat → Int32), cc_TA 16 Ao ob → post (cr_ch (cc_sol n 20 hd st sz pt ng ob) (cc_sol n 20 hd st sz pt ng (cc_up ob c 0)) 16 0 0) (nI d, nI n, -1, 0, Ah, As, Az, Ap, Ag, Ad, An, Ao, Av, Af, At, Aw, Ak)) : wpX_influence post (nI d, nI n, -1, fU, Ah, As, Az, Ap, Ag, Ad, An, Ao, Av, Af, At, Aw, Ak) (nI c) := by
  have c1 : (nI c).toNatClampNeg = c := nI_clamp (by omega)
  have i1 : vp_in (nI c) 16 := vp_in_nI hc (by decide)
  unfold wpX_influence
  exact cx_cl hc (br_f (by decide) (cx_keep G X (fun fU' Av' Af' At' Aw' Ak' hu hv hk => ⟨i1, nm_r (e' := nI (ob c)) (by rw [c1]; exact X.2.2.2.1 c hc) ⟨i1, nm_r (e' := upd Ao c (nI 0)) (by rw [c1]; rfl) (cx_settleO G (cx_cur X hv) (Nat.zero_le _) hc (fun Av2 Af2 At2 Aw2 h1 h2 => ⟨i1, nm_r (e' := upd (upd Ao c (nI 0)) c (nI (ob c))) (by rw [c1]) (cx_changes hk h1 (cr_bd G hv) (fun j hj => cc_bd G.1 (cr_O_up G.2.2.2 (Nat.zero_le _)) h2 hj) (H _ Av2 Af2 At2 Aw2 Ak' (cr_back X.2.2.2.1)))⟩))⟩⟩)))
theorem cy_influence {post : Int32 → SY → Prop} (G : cr_G n d hd st sz pt ng ob dq dr) (Y : cr_Y n d hd st sz pt ng ob dq dr Bo Bd Bn Bh Bs Bz Bp Bg) (hc : c < 16)
    (H : ∀ Bv Bk : Nat → Int32, post (cr_ch (cc_sol n 20 hd st sz pt ng ob) (cc_sol n 20 hd st sz pt ng (cc_up ob c 0)) 16 0 0) (nI d, nI n, Bo, Bd, Bn, Bh, Bs, Bz, Bp, Bg, Bv, Bk)) : wpY_influence post (nI d, nI n, Bo, Bd, Bn, Bh, Bs, Bz, Bp, Bg, Bv, Bk) (nI c) := by
  unfold wpY_influence
  exact cy_cl hc (br_t rfl (cy_keep G Y (fun Bv' Bk' hv hk => cy_allO G Y (s := 0) (Nat.zero_le _) hc (fun Bv2 h1 h2 => cy_others hk h1 (cr_bd G hv) (fun j hj => cc_bd G.1 (cr_O_up G.2.2.2 (Nat.zero_le _)) h2 hj) (H Bv2 Bk')))))
theorem i_vc_influence {k : Nat} {u : SX} {v : SY} (I : i_Rel k u v) (hk : k + 4 ≤ 2048) (v1 : Int32) : wpX_influence (fun r u' => wpY_influence (fun r' v' => r' = r ∧ i_Rel (k + 4) u' v') v v1) u v1 := by
  refine cr_el (P := fun u v => wpX_influence (fun r u' => wpY_influence (fun r' v' => r' = r ∧ i_Rel (k + 4) u' v') v v1) u v1) ?_ I
  intro n d hd st sz pt ng ob dq dr fU Ah As Az Ap Ag Ad An Ao Av Af At Aw Ak Bo Bd Bn Bh Bs Bz Bp Bg Bv Bk G X Y
  have hn : n ≤ 20 := G.1.1
  by_cases hc : ∃ c, c < 16 ∧ v1 = nI c
  · obtain ⟨c, hc, rfl⟩ := hc
    exact cx_influence G X hc (fun Ao' Av' Af' At' Aw' Ak' TO => cy_influence G Y hc (fun Bv' Bk' => ⟨rfl, cr_in G (cx_old X TO) Y⟩))
  · exact cx_influence1 hc (cy_influence1 hc ⟨rfl, cr_in G X Y⟩)
end
end
