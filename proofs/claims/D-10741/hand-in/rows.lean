section
/-! the picture: an array of symbols is one number, three bits a place -/
def qm_g (A i : Nat) : Nat := (A >>> (3 * i)) % 8
def qm_s (A i x : Nat) : Nat := A ^^^ ((qm_g A i ^^^ x) <<< (3 * i))
def qm_v (A : Nat) : Nat → Int32 := fun i => nI (qm_g A i)
def qm_PW : Nat := 3285150328593
def qm_EX : Nat := 11740736
def qm_MT : Nat := 2821848294356612419217921029917578219971947684264937521152
def qm_OT : Nat := 1047628189932426741136043465902155670087605318451074170880
def qm_m (a b : Nat) : Nat := qm_g qm_MT (8 * a + b)
def qm_o (a b : Nat) : Nat := qm_g qm_OT (8 * a + b)
/-- n turns, the counter upwards from k -/
def qm_up {α : Type} (f : Nat → α → α) : Nat → Nat → α → α
  | 0, _, a => a
  | n + 1, k, a => qm_up f n (k + 1) (f k a)
/-- n turns, the counter downwards from n - 1 to 0 -/
def qm_dn {α : Type} (f : Nat → α → α) : Nat → α → α
  | 0, a => a
  | n + 1, a => qm_dn f n (f n a)
/-- the state as the picture holds it -/
abbrev qm_S (ln df : Int32) (W M Y R H B N Z : Nat) : St2 := (ln, df, qm_v W, qm_v M, qm_v qm_PW, qm_v qm_EX, qm_v Y, qm_v R, qm_v H, qm_v B, qm_v N, qm_v Z)
def qm_cpf (A : Nat) (k B : Nat) : Nat := qm_s B k (qm_g A k)
def qm_vf (A x : Nat) (p u : Nat) : Nat := qm_m u x ^^^ qm_g A p
def qm_val (A x : Nat) : Nat := qm_dn (qm_vf A x) 7 0
def qm_qf (M : Nat) (p l : Nat) : Nat := if qm_g M p = 0 then l else l + 1
def qm_Yf (W : Nat) (j Y : Nat) : Nat := qm_s Y j (qm_val W (qm_g qm_PW j))
def qm_oneF (k R : Nat) : Nat := qm_s R k (if k = 0 then 1 else 0)
def qm_facF (p : Nat) (j R : Nat) : Nat := qm_s R (j + 1) (qm_g R (j + 1) ^^^ qm_m (qm_g R j) (qm_g qm_PW p))
def qm_misF (M : Nat) (p R : Nat) : Nat := if qm_g M p = 0 then R else qm_dn (qm_facF p) 9 R
def qm_gapF (R Y r : Nat) (k u : Nat) : Nat := u ^^^ qm_m (qm_g R k) (qm_g Y (r - k))
def qm_gap (R Y r : Nat) : Nat := qm_up (qm_gapF R Y r) r 0 0
def qm_shF (j H : Nat) : Nat := qm_s H (j + 1) (qm_g H j)
def qm_sh (H : Nat) : Nat := qm_s (qm_dn qm_shF 9 H) 0 0
def qm_rbF (gap H : Nat) (k : Nat) (t : Nat × Nat) : Nat × Nat := (qm_s t.1 k (qm_g t.1 k ^^^ qm_m gap (qm_g H k)), qm_s t.2 k (qm_g t.1 k))
def qm_ovF (gap B : Nat) (k H : Nat) : Nat := qm_s H k (qm_o (qm_g B k) gap)
/-- lengthen -/
def qm_lng (gap r q : Nat) (ln : Int32) (R H B : Nat) : Int32 × Nat × Nat × Nat :=
  if (nI r + nI q) - 1 < 2 * ln then (ln, (qm_up (qm_rbF gap H) 10 0 (R, B)).1, H, (qm_up (qm_rbF gap H) 10 0 (R, B)).2)
  else ((nI r + nI q) - ln, (qm_up (qm_rbF gap H) 10 0 (R, B)).1, qm_up (qm_ovF gap (qm_up (qm_rbF gap H) 10 0 (R, B)).2) 10 0 H, (qm_up (qm_rbF gap H) 10 0 (R, B)).2)
/-- one turn of the rule's loop -/
def qm_rlF (q Y : Nat) (r : Nat) (t : Int32 × Nat × Nat × Nat) : Int32 × Nat × Nat × Nat :=
  if qm_gap t.2.1 Y r = 0 then (t.1, t.2.1, qm_sh t.2.2.1, t.2.2.2) else qm_lng (qm_gap t.2.1 Y r) r q t.1 t.2.1 (qm_sh t.2.2.1) t.2.2.2
def qm_R0 (M R : Nat) : Nat := qm_up (qm_misF M) 7 0 (qm_up qm_oneF 10 0 R)
/-- buildRule: length, rule, helper, before -/
def qm_rl (q M Y R H B : Nat) : Int32 × Nat × Nat × Nat := qm_up (qm_rlF q Y) (4 - q) (q + 1) (nI q, qm_R0 M R, qm_up (qm_cpf (qm_R0 M R)) 10 0 H, B)
def qm_nuF (R Y k : Nat) (i N : Nat) : Nat := qm_s N k (qm_g N k ^^^ qm_m (qm_g R i) (qm_g Y (k - i + 1)))
def qm_nF (R Y : Nat) (k N : Nat) : Nat := qm_up (qm_nuF R Y k) (k + 1) 0 (qm_s N k 0)
def qm_nu (R Y N : Nat) : Nat := qm_up (qm_nF R Y) 4 0 N
/-- sum, odd, upper, x -/
def qm_coF (R N back : Nat) (k : Nat) (t : Nat × Nat × Nat × Nat) : Nat × Nat × Nat × Nat :=
  (t.1 ^^^ qm_m (qm_g R k) t.2.2.2, t.2.1 ^^^ (if k % 2 = 0 then 0 else qm_m (qm_g R k) t.2.2.2), t.2.2.1 ^^^ (if 4 ≤ k then 0 else qm_m (qm_g N k) t.2.2.2), qm_m t.2.2.2 back)
def qm_coE (p Z : Nat) (t : Nat × Nat × Nat × Nat) : Nat := if t.1 = 0 then (if t.2.1 = 0 then Z else qm_s Z p (qm_g Z p ^^^ qm_o t.2.2.1 (qm_m t.2.1 (qm_g qm_PW p)))) else Z
def qm_co (R N : Nat) (p Z : Nat) : Nat := qm_coE p Z (qm_up (qm_coF R N (qm_g qm_PW (7 - p))) 8 0 (0, 0, 0, 1))
def qm_dfF (W M Z : Nat) (p : Nat) (d : Int32) : Int32 := if qm_g M p = 0 then (if qm_g Z p = qm_g W p then d + 0 else d + 1) else d + 0
def qm_df (W M Z : Nat) : Int32 := qm_up (qm_dfF W M Z) 7 0 0
/-- findWhole over a state: length, differences, syndrome, rule, helper, before, numerator, whole -/
abbrev qm_T : Type := Int32 × Int32 × Nat × Nat × Nat × Nat × Nat × Nat
def qm_fW3 (W M q : Nat) (Y : Nat) (t : Int32 × Nat × Nat × Nat) (N Z : Nat) : qm_T := (t.1, qm_df W M Z, Y, t.2.1, t.2.2.1, t.2.2.2, N, Z)
def qm_fW2 (W M q : Nat) (Y : Nat) (t : Int32 × Nat × Nat × Nat) (N Z : Nat) : qm_T := qm_fW3 W M q Y t N (qm_up (qm_co t.2.1 N) 7 0 Z)
def qm_fW1 (W M q : Nat) (Y : Nat) (t : Int32 × Nat × Nat × Nat) (N Z : Nat) : qm_T := qm_fW2 W M q Y t (qm_nu t.2.1 Y N) Z
def qm_fW0 (W M q : Nat) (Y R H B N Z : Nat) : qm_T := qm_fW1 W M q Y (qm_rl q M Y R H B) N Z
def qm_F (W M : Nat) (t : qm_T) : qm_T := qm_fW0 W M (qm_up (qm_qf M) 7 0 0) (qm_up (qm_Yf W) 4 1 t.2.2.1) t.2.2.2.1 t.2.2.2.2.1 t.2.2.2.2.2.1 t.2.2.2.2.2.2.1 (qm_up (qm_cpf W) 7 0 t.2.2.2.2.2.2.2)
/-- what isRight asks -/
def qm_ok (q : Nat) (df : Int32) (Z : Nat) : Bool := Nat.ble q 4 && (Nat.beq (qm_val Z (qm_g qm_PW 1)) 0 && Nat.beq (qm_val Z (qm_g qm_PW 2)) 0 && Nat.beq (qm_val Z (qm_g qm_PW 3)) 0 && Nat.beq (qm_val Z (qm_g qm_PW 4)) 0) && decide (¬ (4 : Int32) < 2 * df + nI q)
def qm_okF (M : Nat) (t : qm_T) : Bool := qm_ok (qm_up (qm_qf M) 7 0 0) t.2.1 t.2.2.2.2.2.2.2
def qm_eqT (s t : qm_T) : Bool := decide (s.1 = t.1) && (decide (s.2.1 = t.2.1) && (Nat.beq s.2.2.1 t.2.2.1 && (Nat.beq s.2.2.2.1 t.2.2.2.1 && (Nat.beq s.2.2.2.2.1 t.2.2.2.2.1 && (Nat.beq s.2.2.2.2.2.1 t.2.2.2.2.2.1 && (Nat.beq s.2.2.2.2.2.2.1 t.2.2.2.2.2.2.1 && Nat.beq s.2.2.2.2.2.2.2 t.2.2.2.2.2.2.2))))))
def qm_t0 : qm_T := (0, 0, 0, 0, 0, 0, 0, 0)
def qm_t1 (W : Nat) : qm_T := qm_F W 0 qm_t0
/-- all that the law asks of one wrong place j with the symbol c -/
def qm_chk (j c : Nat) : Bool :=
  qm_okF 0 (qm_t1 (qm_s 0 j c)) && decide ((qm_t1 (qm_s 0 j c)).2.1 = if c = 0 then 0 else 1) && qm_eqT (qm_F (qm_s 0 j c) 0 (qm_t1 (qm_s 0 j c))) (qm_t1 (qm_s 0 j c)) && Nat.beq (qm_t1 (qm_s 0 j c)).2.2.2.2.2.2.2 0
  && qm_okF (qm_s 0 j 1) (qm_F (qm_s 0 j c) (qm_s 0 j 1) (qm_t1 (qm_s 0 j c))) && decide ((qm_F (qm_s 0 j c) (qm_s 0 j 1) (qm_t1 (qm_s 0 j c))).2.1 = 0) && Nat.beq (qm_val (qm_s 0 j c) 1) c
theorem qm_all : ∀ j, j < 7 → ∀ c, c < 8 → qm_chk j c = true := by decide +kernel
end
section
theorem qm_nx (a b : Nat) : nI a ^^^ nI b = nI (a ^^^ b) := by
  apply Int32.toBitVec_inj.1
  show BitVec.ofNat 32 a ^^^ BitVec.ofNat 32 b = BitVec.ofNat 32 (a ^^^ b)
  apply BitVec.eq_of_getLsbD_eq
  intro i hi
  simp [hi]
theorem qm_gl (A i : Nat) : qm_g A i < 8 := Nat.mod_lt _ (by decide)
theorem qm_ml (a b : Nat) : qm_m a b < 8 := qm_gl _ _
theorem qm_ol (a b : Nat) : qm_o a b < 8 := qm_gl _ _
theorem qm_xl {a b : Nat} (ha : a < 8) (hb : b < 8) : a ^^^ b < 8 := Nat.xor_lt_two_pow (n := 3) ha hb
theorem qm_gb (A i b : Nat) : (qm_g A i).testBit b = (decide (b < 3) && A.testBit (3 * i + b)) := by
  unfold qm_g
  rw [show 8 = 2 ^ 3 from rfl, Nat.testBit_mod_two_pow, Nat.testBit_shiftRight]
theorem qm_xb {x b : Nat} (hx : x < 8) (hb : 3 ≤ b) : x.testBit b = false :=
  Nat.testBit_lt_two_pow (Nat.lt_of_lt_of_le hx (Nat.pow_le_pow_right (n := 2) (by decide) hb))
theorem qm_gs (A i x j : Nat) (hx : x < 8) : qm_g (qm_s A i x) j = if j = i then x else qm_g A j := by
  apply Nat.eq_of_testBit_eq
  intro b
  rw [qm_gb]
  unfold qm_s
  rw [Nat.testBit_xor, Nat.testBit_shiftLeft, Nat.testBit_xor, qm_gb]
  by_cases hb : b < 3
  · by_cases hj : j = i
    · subst hj
      rw [if_pos rfl, show 3 * j + b - 3 * j = b by omega, decide_eq_true hb, decide_eq_true (show 3 * j + b ≥ 3 * j by omega)]
      cases A.testBit (3 * j + b) <;> cases x.testBit b <;> rfl
    · rw [if_neg hj, qm_gb, decide_eq_true hb]
      by_cases hk : 3 * j + b ≥ 3 * i
      · rw [decide_eq_false (show ¬ 3 * j + b - 3 * i < 3 by omega), qm_xb hx (show 3 ≤ 3 * j + b - 3 * i by omega)]
        simp
      · rw [decide_eq_false hk]
        simp
  · rw [decide_eq_false hb]
    by_cases hj : j = i
    · rw [if_pos hj, qm_xb hx (show 3 ≤ b by omega)]
      rfl
    · rw [if_neg hj, qm_gb, decide_eq_false hb]
      rfl
theorem qm_u (A i x : Nat) (hx : x < 8) : upd (qm_v A) i (nI x) = qm_v (qm_s A i x) := by
  funext j
  show (if j = i then nI x else nI (qm_g A j)) = nI (qm_g (qm_s A i x) j)
  rw [qm_gs A i x j hx]
  by_cases h : j = i
  · rw [if_pos h, if_pos h]
  · rw [if_neg h, if_neg h]
theorem qm_v0 : (fun _ => (0 : Int32)) = qm_v 0 := by
  funext j
  show 0 = nI (qm_g 0 j)
  unfold qm_g
  rw [Nat.zero_shiftRight]
  rfl
theorem qm_get {A k : Nat} (hk : k < 2 ^ 31) : qm_v A (nI k).toNatClampNeg = nI (qm_g A k) := by
  rw [nI_clamp hk]
  rfl
/-- a store -/
theorem qm_pn {P : (Nat → Int32) → Prop} {A : Nat} {v : Int32} (k x : Nat) (hx : x < 8) (hv : v = nI x) (h : P (qm_v (qm_s A k x))) : ∀ y, y = upd (qm_v A) k v → P y := by
  intro y e
  rw [e, hv, qm_u A k x hx]
  exact h
theorem qm_pt {P : (Nat → Int32) → Prop} {A : Nat} {v : Int32} (k x : Nat) (hk : k < 2 ^ 31) (hx : x < 8) (hv : v = nI x) (h : P (qm_v (qm_s A k x))) : ∀ y, y = upd (qm_v A) (nI k).toNatClampNeg v → P y := by
  intro y e
  rw [e, hv, nI_clamp hk, qm_u A k x hx]
  exact h
theorem qm_tk1 : ∀ a, a < 8 → ∀ b, b < 8 → a = 0 ∨ b = 0 → qm_m a b = 0 := by decide +kernel
theorem qm_tk2 : ∀ a, a < 8 → ∀ b, b < 8 → qm_g qm_EX a + qm_g qm_EX b < 14 ∧ (a = 0 ∨ b = 0 ∨ qm_g qm_PW (qm_g qm_EX a + qm_g qm_EX b) = qm_m a b) := by decide +kernel
theorem qm_tk (a : Nat) (ha : a < 8) (b : Nat) (hb : b < 8) : (a = 0 → qm_m a b = 0) ∧ (b = 0 → qm_m a b = 0) ∧ (a ≠ 0 → b ≠ 0 → qm_g qm_EX a + qm_g qm_EX b < 14 ∧ qm_g qm_PW (qm_g qm_EX a + qm_g qm_EX b) = qm_m a b) :=
  ⟨fun z => qm_tk1 a ha b hb (Or.inl z), fun z => qm_tk1 a ha b hb (Or.inr z), fun z w => ⟨(qm_tk2 a ha b hb).1, (qm_tk2 a ha b hb).2.elim (fun y => absurd y z) (fun y => y.elim (fun y => absurd y w) id)⟩⟩
theorem qm_ok8 : ∀ a, a < 8 → ∀ b, b < 8 → (a = 0 → qm_o a b = 0) ∧ (a ≠ 0 → qm_g qm_EX b ≤ qm_g qm_EX a + 7 ∧ qm_g qm_EX a + 7 - qm_g qm_EX b < 14 ∧ qm_g qm_PW (qm_g qm_EX a + 7 - qm_g qm_EX b) = qm_o a b) := by decide +kernel
theorem qm_times {post : Int32 → Prop} {ln df : Int32} {a1 a2 a5 a6 a7 a8 a9 a10 : Nat → Int32} {p0 p1 : Int32} (a b : Nat) (ha : a < 8) (hb : b < 8) (e0 : p0 = nI a) (e1 : p1 = nI b) (h : post (nI (qm_m a b))) : wpX_times post (ln, df, a1, a2, qm_v qm_PW, qm_v qm_EX, a5, a6, a7, a8, a9, a10) p0 p1 := by
  subst e0 e1
  obtain ⟨k1, k2, k3⟩ := qm_tk a ha b hb
  refine pk_eq a 0 (fun z => ?_) (fun z => ?_)
  · rw [k1 z] at h
    exact h
  · refine pk_eq b 0 (fun w => ?_) (fun w => ⟨pk_in a 8 ha, pk_in b 8 hb, ?_⟩)
    · rw [k2 w] at h
      exact h
    · obtain ⟨k4, k5⟩ := k3 z w
      rw [qm_get (show a < 2 ^ 31 by omega), qm_get (show b < 2 ^ 31 by omega), nI_add, qm_get (show qm_g qm_EX a + qm_g qm_EX b < 2 ^ 31 by omega), k5]
      exact ⟨pk_in _ 14 k4, h⟩
theorem qm_over {post : Int32 → Prop} {ln df : Int32} {a1 a2 a5 a6 a7 a8 a9 a10 : Nat → Int32} {p0 p1 : Int32} (a b : Nat) (ha : a < 8) (hb : b < 8) (e0 : p0 = nI a) (e1 : p1 = nI b) (h : post (nI (qm_o a b))) : wpX_over post (ln, df, a1, a2, qm_v qm_PW, qm_v qm_EX, a5, a6, a7, a8, a9, a10) p0 p1 := by
  subst e0 e1
  obtain ⟨k1, k3⟩ := qm_ok8 a ha b hb
  refine pk_eq a 0 (fun z => ?_) (fun z => ⟨pk_in a 8 ha, pk_in b 8 hb, ?_⟩)
  · rw [k1 z] at h
    exact h
  · obtain ⟨k4, k5, k6⟩ := k3 z
    have e : qm_v qm_EX (nI a).toNatClampNeg + 7 - qm_v qm_EX (nI b).toNatClampNeg = nI (qm_g qm_EX a + 7 - qm_g qm_EX b) := by
      rw [qm_get (show a < 2 ^ 31 by omega), qm_get (show b < 2 ^ 31 by omega), show (7 : Int32) = nI 7 from rfl, nI_add, pk_sub k4]
    rw [e, qm_get (show qm_g qm_EX a + 7 - qm_g qm_EX b < 2 ^ 31 by omega), k6]
    exact ⟨pk_in _ 14 k5, h⟩
/-- valueOf over whole -/
theorem qm_v6 {post : Int32 → Prop} {ln df : Int32} {a1 a2 a5 a6 a7 a8 a9 : Nat → Int32} {Z x : Nat} (hx : x < 8) : ∀ (k u : Nat), k ≤ 7 → u < 8 → post (nI (qm_dn (qm_vf Z x) k u)) → wX_valueOf_6 post (nI x) ln df a1 a2 (qm_v qm_PW) (qm_v qm_EX) a5 a6 a7 a8 a9 (qm_v Z) (k + 1) (nI u) (nI k + (-1)) := by
  intro k
  induction k with
  | zero => exact fun u _ _ h => br_t (by decide) h
  | succ k ih =>
    intro u hk hu h
    rw [pk_m1]
    exact br_f (nI_pos (by omega)) (qm_times u x hu hx rfl rfl ⟨pk_in k 7 (by omega), nm_r (by rw [qm_get (by omega), qm_nx]) (nm_e (ih _ (by omega) (qm_xl (qm_ml u x) (qm_gl Z k)) h))⟩)
theorem qm_value {post : Int32 → Prop} {ln df : Int32} {a1 a2 a5 a6 a7 a8 a9 : Nat → Int32} {Z : Nat} {p1 : Int32} (x : Nat) (hx : x < 8) (e : p1 = nI x) (h : post (nI (qm_val Z x))) : wpX_valueOf post (ln, df, a1, a2, qm_v qm_PW, qm_v qm_EX, a5, a6, a7, a8, a9, qm_v Z) p1 := by
  subst e
  have t := qm_v6 (post := post) (ln := ln) (df := df) (a1 := a1) (a2 := a2) (a5 := a5) (a6 := a6) (a7 := a7) (a8 := a8) (a9 := a9) (Z := Z) hx (6 + 1) 0 (by omega) (by omega) h
  rw [pk_m1] at t
  exact ⟨_, t⟩
/-- valueOf over word -/
theorem qm_v26 {post : Int32 → Prop} {ln df : Int32} {a2 a5 a6 a7 a8 a9 a10 : Nat → Int32} {Z x : Nat} (hx : x < 8) : ∀ (k u : Nat), k ≤ 7 → u < 8 → post (nI (qm_dn (qm_vf Z x) k u)) → wX_valueOf_2_6 post (nI x) ln df (qm_v Z) a2 (qm_v qm_PW) (qm_v qm_EX) a5 a6 a7 a8 a9 a10 (k + 1) (nI u) (nI k + (-1)) := by
  intro k
  induction k with
  | zero => exact fun u _ _ h => br_t (by decide) h
  | succ k ih =>
    intro u hk hu h
    rw [pk_m1]
    exact br_f (nI_pos (by omega)) (qm_times u x hu hx rfl rfl ⟨pk_in k 7 (by omega), nm_r (by rw [qm_get (by omega), qm_nx]) (nm_e (ih _ (by omega) (qm_xl (qm_ml u x) (qm_gl Z k)) h))⟩)
theorem qm_value2 {post : Int32 → Prop} {ln df : Int32} {a2 a5 a6 a7 a8 a9 a10 : Nat → Int32} {Z : Nat} {p1 : Int32} (x : Nat) (hx : x < 8) (e : p1 = nI x) (h : post (nI (qm_val Z x))) : wpX_valueOf_2 post (ln, df, qm_v Z, a2, qm_v qm_PW, qm_v qm_EX, a5, a6, a7, a8, a9, a10) p1 := by
  subst e
  have t := qm_v26 (post := post) (ln := ln) (df := df) (a2 := a2) (a5 := a5) (a6 := a6) (a7 := a7) (a8 := a8) (a9 := a9) (a10 := a10) (Z := Z) hx (6 + 1) 0 (by omega) (by omega) h
  rw [pk_m1] at t
  exact ⟨_, t⟩
end
section
theorem qm_upS {α : Type} (f : Nat → α → α) (n k : Nat) (a : α) : qm_up f (n + 1) k a = qm_up f n (k + 1) (f k a) := rfl
theorem qm_dnS {α : Type} (f : Nat → α → α) (n : Nat) (a : α) : qm_dn f (n + 1) a = qm_dn f n (f n a) := rfl
/-! lengthen -/
theorem qm_l81 {post : St2 → Prop} {ln df x2 x3 : Int32} {a1 a2 a5 a6 a9 a10 : Nat → Int32} {g B : Nat} (hg : g < 8) : ∀ (n k H : Nat), k + n = 10 → post ((x2 + x3) - ln, df, a1, a2, qm_v qm_PW, qm_v qm_EX, a5, a6, qm_v (qm_up (qm_ovF g B) n k H), qm_v B, a9, a10) → wX_lengthen_81 post (nI g) x2 x3 ln df (n + 1) (nI k) a1 a2 (qm_v qm_PW) (qm_v qm_EX) a5 a6 (qm_v H) (qm_v B) a9 a10 := by
  intro n
  induction n with
  | zero => exact fun k H hk h => pk_le 10 k (fun _ => nm_e h) (fun z => absurd z (by omega))
  | succ n ih =>
    intro k H hk h
    exact pk_le 10 k (fun z => absurd z (by omega)) (fun _ => ⟨pk_in k 10 (by omega), qm_over (qm_g B k) g (qm_gl _ _) hg (qm_get (by omega)) rfl ⟨pk_in k 10 (by omega), qm_pt k _ (by omega) (qm_ol _ _) rfl (nm_r (nI_1 k) (ih (k + 1) _ (by omega) h))⟩⟩)
theorem qm_l24 {post : St2 → Prop} {ln df x2 x3 x4 : Int32} {a1 a2 a5 a9 a10 : Nat → Int32} {g H : Nat} (hg : g < 8) : ∀ (n k R B : Nat), k + n = 10 → ((x4 = 0 → post (ln, df, a1, a2, qm_v qm_PW, qm_v qm_EX, a5, qm_v (qm_up (qm_rbF g H) n k (R, B)).1, qm_v H, qm_v (qm_up (qm_rbF g H) n k (R, B)).2, a9, a10)) ∧ (¬ x4 = 0 → ∃ fu, wX_lengthen_81 post (nI g) x2 x3 ln df fu 0 a1 a2 (qm_v qm_PW) (qm_v qm_EX) a5 (qm_v (qm_up (qm_rbF g H) n k (R, B)).1) (qm_v H) (qm_v (qm_up (qm_rbF g H) n k (R, B)).2) a9 a10)) → wX_lengthen_24 post (nI g) x2 x3 x4 ln df (n + 1) (nI k) a1 a2 (qm_v qm_PW) (qm_v qm_EX) a5 (qm_v R) (qm_v H) (qm_v B) a9 a10 := by
  intro n
  induction n with
  | zero => exact fun k R B hk h => pk_le 10 k (fun _ => h) (fun z => absurd z (by omega))
  | succ n ih =>
    intro k R B hk h
    exact pk_le 10 k (fun z => absurd z (by omega)) (fun _ => ⟨pk_in k 10 (by omega), pk_in k 10 (by omega), qm_pt k (qm_g R k) (by omega) (qm_gl _ _) (qm_get (by omega)) ⟨pk_in k 10 (by omega), pk_in k 10 (by omega), qm_times g (qm_g H k) hg (qm_gl _ _) rfl (qm_get (by omega)) ⟨pk_in k 10 (by omega), qm_pt k (qm_g R k ^^^ qm_m g (qm_g H k)) (by omega) (qm_xl (qm_gl _ _) (qm_ml _ _)) (by rw [qm_get (by omega), qm_nx]) (nm_r (nI_1 k) (ih (k + 1) _ _ (by omega) h))⟩⟩⟩)
theorem qm_wlen {post : St2 → Prop} {ln df : Int32} {a1 a2 a5 a9 a10 : Nat → Int32} {R H B : Nat} (g r q : Nat) (hg : g < 8) (h : post ((qm_lng g r q ln R H B).1, df, a1, a2, qm_v qm_PW, qm_v qm_EX, a5, qm_v (qm_lng g r q ln R H B).2.1, qm_v (qm_lng g r q ln R H B).2.2.1, qm_v (qm_lng g r q ln R H B).2.2.2, a9, a10)) : wpX_lengthen post (ln, df, a1, a2, qm_v qm_PW, qm_v qm_EX, a5, qm_v R, qm_v H, qm_v B, a9, a10) (nI g) (nI r) (nI q) := by
  unfold qm_lng at h
  refine br_c (fun z => ?_) (fun z => ?_)
  · rw [if_pos z] at h
    exact ⟨11, qm_l24 hg 10 0 R B rfl (br_t rfl h)⟩
  · rw [if_neg z] at h
    exact ⟨11, qm_l24 hg 10 0 R B rfl (br_f (by decide) ⟨11, qm_l81 hg 10 0 H rfl h⟩)⟩
/-! buildRule -/
def qm_stp (u r q : Nat) (ln : Int32) (R H B : Nat) : Int32 × Nat × Nat × Nat := if u = 0 then (ln, R, H, B) else qm_lng u r q ln R H B
theorem qm_b176 {post : St2 → Prop} {J : Int32 → Int32 → Int32 → (Nat → Int32) → (Nat → Int32) → (Nat → Int32) → (Nat → Int32) → (Nat → Int32) → (Nat → Int32) → (Nat → Int32) → (Nat → Int32) → (Nat → Int32) → (Nat → Int32) → Prop} {ln df : Int32} {a1 a2 a5 a9 a10 : Nat → Int32} {q r u R B : Nat} (hu : u < 8) : ∀ (k H : Nat), k ≤ 9 → J (nI (r + 1)) (qm_stp u r q ln R (qm_s (qm_dn qm_shF k H) 0 0) B).1 df a1 a2 (qm_v qm_PW) (qm_v qm_EX) a5 (qm_v (qm_stp u r q ln R (qm_s (qm_dn qm_shF k H) 0 0) B).2.1) (qm_v (qm_stp u r q ln R (qm_s (qm_dn qm_shF k H) 0 0) B).2.2.1) (qm_v (qm_stp u r q ln R (qm_s (qm_dn qm_shF k H) 0 0) B).2.2.2) a9 a10 → wX_buildRule_176 post J (nI q) (nI r) (nI u) ln df (k + 1) (nI k) a1 a2 (qm_v qm_PW) (qm_v qm_EX) a5 (qm_v R) (qm_v H) (qm_v B) a9 a10 := by
  intro k
  induction k with
  | zero =>
    intro H _ h
    unfold qm_stp at h
    refine pk_le 0 0 (fun _ => qm_pn 0 0 (by omega) rfl (pk_eq u 0 (fun z => ?_) (fun z => ?_))) (fun z => absurd z (by omega))
    · rw [if_pos z] at h
      exact nm_r (nI_1 r) h
    · rw [if_neg z] at h
      exact qm_wlen u r q hu (nm_r (nI_1 r) h)
  | succ k ih =>
    intro H hk h
    exact pk_le (k + 1) 0 (fun z => absurd z (by omega)) (fun _ => ⟨pk_in k 10 (by omega) (nI_pred k), pk_in (k + 1) 10 (by omega), qm_pt (k + 1) (qm_g H k) (by omega) (qm_gl _ _) (by rw [nI_pred, qm_get (by omega)]) (nm_r (pk_m1 k) (ih _ (by omega) h))⟩)
theorem qm_b137 {post : St2 → Prop} {J : Int32 → Int32 → Int32 → (Nat → Int32) → (Nat → Int32) → (Nat → Int32) → (Nat → Int32) → (Nat → Int32) → (Nat → Int32) → (Nat → Int32) → (Nat → Int32) → (Nat → Int32) → (Nat → Int32) → Prop} {ln df : Int32} {a1 a2 a9 a10 : Nat → Int32} {q r Y R H B : Nat} (hr : r < 5) : ∀ (n k u : Nat), k + n = r → u < 8 → J (nI (r + 1)) (qm_stp (qm_up (qm_gapF R Y r) n k u) r q ln R (qm_sh H) B).1 df a1 a2 (qm_v qm_PW) (qm_v qm_EX) (qm_v Y) (qm_v (qm_stp (qm_up (qm_gapF R Y r) n k u) r q ln R (qm_sh H) B).2.1) (qm_v (qm_stp (qm_up (qm_gapF R Y r) n k u) r q ln R (qm_sh H) B).2.2.1) (qm_v (qm_stp (qm_up (qm_gapF R Y r) n k u) r q ln R (qm_sh H) B).2.2.2) a9 a10 → wX_buildRule_137 post J (nI q) (nI r) ln df a1 a2 (qm_v qm_PW) (qm_v qm_EX) (qm_v Y) (qm_v R) (qm_v H) (qm_v B) a9 a10 (n + 1) (nI u) (nI k) := by
  intro n
  induction n with
  | zero => exact fun k u hk hu h => pk_le r k (fun _ => ⟨10, qm_b176 hu 9 H (by omega) h⟩) (fun z => absurd z (by omega))
  | succ n ih =>
    intro k u hk hu h
    exact pk_le r k (fun z => absurd z (by omega)) (fun _ => ⟨pk_in k 10 (by omega), pk_in (r - k) 5 (by omega) (pk_sub (by omega)), qm_times (qm_g R k) (qm_g Y (r - k)) (qm_gl _ _) (qm_gl _ _) (qm_get (by omega)) (by rw [pk_sub (by omega), qm_get (by omega)]) (nm_r (qm_nx _ _) (nm_r (nI_1 k) (ih (k + 1) _ (by omega) (qm_xl hu (qm_ml _ _)) h)))⟩)
theorem qm_b127 {post : St2 → Prop} {df : Int32} {a1 a2 a9 a10 : Nat → Int32} {q Y : Nat} : ∀ (n r : Nat) (ln : Int32) (R H B : Nat), r + n = 5 → post ((qm_up (qm_rlF q Y) n r (ln, R, H, B)).1, df, a1, a2, qm_v qm_PW, qm_v qm_EX, qm_v Y, qm_v (qm_up (qm_rlF q Y) n r (ln, R, H, B)).2.1, qm_v (qm_up (qm_rlF q Y) n r (ln, R, H, B)).2.2.1, qm_v (qm_up (qm_rlF q Y) n r (ln, R, H, B)).2.2.2, a9, a10) → wX_buildRule_127 post (nI q) (n + 1) (nI r) ln df a1 a2 (qm_v qm_PW) (qm_v qm_EX) (qm_v Y) (qm_v R) (qm_v H) (qm_v B) a9 a10 := by
  intro n
  induction n with
  | zero => exact fun r ln R H B hr h => pk_le 5 r (fun _ => h) (fun z => absurd z (by omega))
  | succ n ih =>
    intro r ln R H B hr h
    have e : qm_rlF q Y r (ln, R, H, B) = qm_stp (qm_gap R Y r) r q ln R (qm_sh H) B := rfl
    rw [qm_upS, e] at h
    exact pk_le 5 r (fun z => absurd z (by omega)) (fun _ => ⟨r + 1, qm_b137 (by omega) r 0 0 (by omega) (by omega) (ih (r + 1) _ _ _ _ (by omega) h)⟩)
theorem qm_b94 {post : St2 → Prop} {ln df : Int32} {a1 a2 a9 a10 : Nat → Int32} {q Y R B : Nat} (hq : q ≤ 4) : ∀ (n k H : Nat), k + n = 10 → post ((qm_up (qm_rlF q Y) (4 - q) (q + 1) (nI q, R, qm_up (qm_cpf R) n k H, B)).1, df, a1, a2, qm_v qm_PW, qm_v qm_EX, qm_v Y, qm_v (qm_up (qm_rlF q Y) (4 - q) (q + 1) (nI q, R, qm_up (qm_cpf R) n k H, B)).2.1, qm_v (qm_up (qm_rlF q Y) (4 - q) (q + 1) (nI q, R, qm_up (qm_cpf R) n k H, B)).2.2.1, qm_v (qm_up (qm_rlF q Y) (4 - q) (q + 1) (nI q, R, qm_up (qm_cpf R) n k H, B)).2.2.2, a9, a10) → wX_buildRule_94 post (nI q) ln df (n + 1) (nI k) a1 a2 (qm_v qm_PW) (qm_v qm_EX) (qm_v Y) (qm_v R) (qm_v H) (qm_v B) a9 a10 := by
  intro n
  induction n with
  | zero => exact fun k H hk h => pk_le 10 k (fun _ => nm_r (nI_1 q) ⟨_, qm_b127 (4 - q) (q + 1) (nI q) R H B (by omega) h⟩) (fun z => absurd z (by omega))
  | succ n ih =>
    intro k H hk h
    exact pk_le 10 k (fun z => absurd z (by omega)) (fun _ => ⟨pk_in k 10 (by omega), pk_in k 10 (by omega), qm_pt k (qm_g R k) (by omega) (qm_gl _ _) (qm_get (by omega)) (nm_r (nI_1 k) (ih (k + 1) _ (by omega) h))⟩)
theorem qm_b40 {post : St2 → Prop} {J : Int32 → (Nat → Int32) → (Nat → Int32) → (Nat → Int32) → (Nat → Int32) → (Nat → Int32) → (Nat → Int32) → (Nat → Int32) → (Nat → Int32) → (Nat → Int32) → (Nat → Int32) → Prop} {ln df x1 : Int32} {a1 a5 a7 a8 a9 a10 : Nat → Int32} {M p : Nat} (hp : p < 7) (hm : qm_g M p ≠ 0) : ∀ (k R : Nat), k ≤ 9 → J (nI (p + 1)) a1 (qm_v M) (qm_v qm_PW) (qm_v qm_EX) a5 (qm_v (qm_dn (qm_facF p) k R)) a7 a8 a9 a10 → wX_buildRule_40 post J x1 (nI p) ln df (k + 1) (nI k) a1 (qm_v M) (qm_v qm_PW) (qm_v qm_EX) a5 (qm_v R) a7 a8 a9 a10 := by
  intro k
  induction k with
  | zero => exact fun R _ h => pk_le 0 0 (fun _ => nm_r (nI_1 p) h) (fun z => absurd z (by omega))
  | succ k ih =>
    intro R hk h
    exact pk_le (k + 1) 0 (fun z => absurd z (by omega)) (fun _ => ⟨pk_in p 7 hp, pk_eq (qm_g M p) 0 (fun z => absurd z hm) (fun _ => ⟨pk_in (k + 1) 10 (by omega), pk_in k 10 (by omega) (nI_pred k), pk_in p 14 (by omega), qm_times (qm_g R k) (qm_g qm_PW p) (qm_gl _ _) (qm_gl _ _) (by rw [nI_pred, qm_get (by omega)]) (qm_get (by omega)) ⟨pk_in (k + 1) 10 (by omega), qm_pt (k + 1) (qm_g R (k + 1) ^^^ qm_m (qm_g R k) (qm_g qm_PW p)) (by omega) (qm_xl (qm_gl _ _) (qm_ml _ _)) (by rw [qm_get (by omega), qm_nx]) (nm_r (pk_m1 k) (ih _ (by omega) h))⟩⟩) (qm_get (by omega)) rfl (Nat.lt_trans (qm_gl _ _) (by decide))⟩)
theorem qm_b31 {post : St2 → Prop} {ln df : Int32} {a1 a9 a10 : Nat → Int32} {q M Y H B : Nat} (hq : q ≤ 4) : ∀ (n p R : Nat), p + n = 7 → post ((qm_up (qm_rlF q Y) (4 - q) (q + 1) (nI q, qm_up (qm_misF M) n p R, qm_up (qm_cpf (qm_up (qm_misF M) n p R)) 10 0 H, B)).1, df, a1, qm_v M, qm_v qm_PW, qm_v qm_EX, qm_v Y, qm_v (qm_up (qm_rlF q Y) (4 - q) (q + 1) (nI q, qm_up (qm_misF M) n p R, qm_up (qm_cpf (qm_up (qm_misF M) n p R)) 10 0 H, B)).2.1, qm_v (qm_up (qm_rlF q Y) (4 - q) (q + 1) (nI q, qm_up (qm_misF M) n p R, qm_up (qm_cpf (qm_up (qm_misF M) n p R)) 10 0 H, B)).2.2.1, qm_v (qm_up (qm_rlF q Y) (4 - q) (q + 1) (nI q, qm_up (qm_misF M) n p R, qm_up (qm_cpf (qm_up (qm_misF M) n p R)) 10 0 H, B)).2.2.2, a9, a10) → wX_buildRule_31 post (nI q) ln df (n + 1) (nI p) a1 (qm_v M) (qm_v qm_PW) (qm_v qm_EX) (qm_v Y) (qm_v R) (qm_v H) (qm_v B) a9 a10 := by
  intro n
  induction n with
  | zero => exact fun p R hp h => pk_le 7 p (fun _ => ⟨11, qm_b94 hq 10 0 H rfl h⟩) (fun z => absurd z (by omega))
  | succ n ih =>
    intro p R hp h
    refine pk_le 7 p (fun z => absurd z (by omega)) (fun _ => ?_)
    by_cases hm : qm_g M p = 0
    · have e : qm_misF M p R = R := if_pos hm
      rw [qm_upS, e] at h
      exact ⟨10, pk_le 9 0 (fun z => absurd z (by omega)) (fun _ => ⟨pk_in p 7 (by omega), pk_eq (qm_g M p) 0 (fun _ => nm_r (nI_1 p) (ih (p + 1) _ (by omega) h)) (fun z => absurd hm z) (qm_get (by omega)) rfl (Nat.lt_trans (qm_gl _ _) (by decide))⟩)⟩
    · have e : qm_misF M p R = qm_dn (qm_facF p) 9 R := if_neg hm
      rw [qm_upS, e] at h
      exact ⟨10, qm_b40 (by omega) hm 9 R (by omega) (ih (p + 1) _ (by omega) h)⟩
theorem qm_b2 {post : St2 → Prop} {ln df : Int32} {a1 a9 a10 : Nat → Int32} {q M Y H B : Nat} (hq : q ≤ 4) : ∀ (n k R : Nat), k + n = 10 → post ((qm_up (qm_rlF q Y) (4 - q) (q + 1) (nI q, qm_up (qm_misF M) 7 0 (qm_up qm_oneF n k R), qm_up (qm_cpf (qm_up (qm_misF M) 7 0 (qm_up qm_oneF n k R))) 10 0 H, B)).1, df, a1, qm_v M, qm_v qm_PW, qm_v qm_EX, qm_v Y, qm_v (qm_up (qm_rlF q Y) (4 - q) (q + 1) (nI q, qm_up (qm_misF M) 7 0 (qm_up qm_oneF n k R), qm_up (qm_cpf (qm_up (qm_misF M) 7 0 (qm_up qm_oneF n k R))) 10 0 H, B)).2.1, qm_v (qm_up (qm_rlF q Y) (4 - q) (q + 1) (nI q, qm_up (qm_misF M) 7 0 (qm_up qm_oneF n k R), qm_up (qm_cpf (qm_up (qm_misF M) 7 0 (qm_up qm_oneF n k R))) 10 0 H, B)).2.2.1, qm_v (qm_up (qm_rlF q Y) (4 - q) (q + 1) (nI q, qm_up (qm_misF M) 7 0 (qm_up qm_oneF n k R), qm_up (qm_cpf (qm_up (qm_misF M) 7 0 (qm_up qm_oneF n k R))) 10 0 H, B)).2.2.2, a9, a10) → wX_buildRule_2 post (nI q) ln df (n + 1) (nI k) a1 (qm_v M) (qm_v qm_PW) (qm_v qm_EX) (qm_v Y) (qm_v R) (qm_v H) (qm_v B) a9 a10 := by
  intro n
  induction n with
  | zero => exact fun k R hk h => pk_le 10 k (fun _ => ⟨8, qm_b31 hq 7 0 R rfl h⟩) (fun z => absurd z (by omega))
  | succ n ih =>
    intro k R hk h
    have b : (if k = 0 then 1 else 0) < 8 := by split <;> omega
    exact pk_le 10 k (fun z => absurd z (by omega)) (fun _ => pk_eq k 0 (fun z => ⟨pk_in k 10 (by omega), qm_pt k (if k = 0 then 1 else 0) (by omega) b (by rw [if_pos z]; rfl) (nm_r (nI_1 k) (ih (k + 1) _ (by omega) h))⟩) (fun z => ⟨pk_in k 10 (by omega), qm_pt k (if k = 0 then 1 else 0) (by omega) b (by rw [if_neg z]; rfl) (nm_r (nI_1 k) (ih (k + 1) _ (by omega) h))⟩))
theorem qm_wrule {post : St2 → Prop} {ln df : Int32} {a1 a9 a10 : Nat → Int32} {q M Y R H B : Nat} (hq : q ≤ 4) (h : post ((qm_rl q M Y R H B).1, df, a1, qm_v M, qm_v qm_PW, qm_v qm_EX, qm_v Y, qm_v (qm_rl q M Y R H B).2.1, qm_v (qm_rl q M Y R H B).2.2.1, qm_v (qm_rl q M Y R H B).2.2.2, a9, a10)) : wpX_buildRule post (ln, df, a1, qm_v M, qm_v qm_PW, qm_v qm_EX, qm_v Y, qm_v R, qm_v H, qm_v B, a9, a10) (nI q) :=
  ⟨11, qm_b2 hq 10 0 R rfl h⟩
/-! findNumerator -/
theorem qm_n16 {post : St2 → Prop} {J : Int32 → (Nat → Int32) → (Nat → Int32) → (Nat → Int32) → (Nat → Int32) → (Nat → Int32) → (Nat → Int32) → (Nat → Int32) → (Nat → Int32) → (Nat → Int32) → (Nat → Int32) → Prop} {ln df : Int32} {a1 a2 a7 a8 a10 : Nat → Int32} {k Y R : Nat} (hk : k < 4) : ∀ (n i N : Nat), i + n = k + 1 → J (nI (k + 1)) a1 a2 (qm_v qm_PW) (qm_v qm_EX) (qm_v Y) (qm_v R) a7 a8 (qm_v (qm_up (qm_nuF R Y k) n i N)) a10 → wX_findNumerator_16 post J (nI k) ln df (n + 1) (nI i) a1 a2 (qm_v qm_PW) (qm_v qm_EX) (qm_v Y) (qm_v R) a7 a8 (qm_v N) a10 := by
  intro n
  induction n with
  | zero => exact fun i N hi h => pk_lt k i (fun _ => nm_r (nI_1 k) h) (fun z => absurd z (by omega))
  | succ n ih =>
    intro i N hi h
    have e : nI k - nI i + 1 = nI (k - i + 1) := by rw [pk_sub (by omega), nI_1]
    exact pk_lt k i (fun z => absurd z (by omega)) (fun _ => ⟨pk_in k 4 hk, pk_in i 10 (by omega), pk_in (k - i + 1) 5 (by omega) e, qm_times (qm_g R i) (qm_g Y (k - i + 1)) (qm_gl _ _) (qm_gl _ _) (qm_get (by omega)) (by rw [e, qm_get (by omega)]) ⟨pk_in k 4 hk, qm_pt k (qm_g N k ^^^ qm_m (qm_g R i) (qm_g Y (k - i + 1))) (by omega) (qm_xl (qm_gl _ _) (qm_ml _ _)) (by rw [qm_get (by omega), qm_nx]) (nm_r (nI_1 i) (ih (i + 1) _ (by omega) h))⟩⟩)
theorem qm_n2 {post : St2 → Prop} {ln df : Int32} {a1 a2 a7 a8 a10 : Nat → Int32} {Y R : Nat} : ∀ (n k N : Nat), k + n = 4 → post (ln, df, a1, a2, qm_v qm_PW, qm_v qm_EX, qm_v Y, qm_v R, a7, a8, qm_v (qm_up (qm_nF R Y) n k N), a10) → wX_findNumerator_2 post ln df (n + 1) (nI k) a1 a2 (qm_v qm_PW) (qm_v qm_EX) (qm_v Y) (qm_v R) a7 a8 (qm_v N) a10 := by
  intro n
  induction n with
  | zero => exact fun k N hk h => pk_le 4 k (fun _ => h) (fun z => absurd z (by omega))
  | succ n ih =>
    intro k N hk h
    exact pk_le 4 k (fun z => absurd z (by omega)) (fun _ => ⟨pk_in k 4 (by omega), qm_pt k 0 (by omega) (by omega) rfl ⟨k + 2, qm_n16 (by omega) (k + 1) 0 _ (by omega) (ih (k + 1) _ (by omega) h)⟩⟩)
theorem qm_wnum {post : St2 → Prop} {ln df : Int32} {a1 a2 a7 a8 a10 : Nat → Int32} {Y R N : Nat} (h : post (ln, df, a1, a2, qm_v qm_PW, qm_v qm_EX, qm_v Y, qm_v R, a7, a8, qm_v (qm_nu R Y N), a10)) : wpX_findNumerator post (ln, df, a1, a2, qm_v qm_PW, qm_v qm_EX, qm_v Y, qm_v R, a7, a8, qm_v N, a10) :=
  ⟨5, qm_n2 4 0 N rfl h⟩
end
section
theorem qm_vfl {A x : Nat} : ∀ (k u : Nat), u < 8 → qm_dn (qm_vf A x) k u < 8 := by
  intro k
  induction k with
  | zero => exact fun u h => h
  | succ k ih => exact fun u h => ih _ (qm_xl (qm_ml _ _) (qm_gl _ _))
theorem qm_vl (A x : Nat) : qm_val A x < 8 := qm_vfl 7 0 (by omega)
/-! correct -/
theorem qm_c94 {post : St2 → Prop} {J : Int32 → Int32 → Int32 → Int32 → Int32 → Prop} {x1 x3 x4 ln df : Int32} {a1 a2 a5 a6 a7 a8 a9 a10 : Nat → Int32} {b x k z v : Nat} (hx : x < 8) (hb : b < 8) (h : J x3 x4 (nI (v ^^^ z)) (nI (qm_m x b)) (nI (k + 1))) : wX_correct_94 post J x1 (nI b) x3 x4 (nI x) (nI k) (nI z) (nI v) ln df a1 a2 (qm_v qm_PW) (qm_v qm_EX) a5 a6 a7 a8 a9 a10 :=
  nm_r (qm_nx v z) (qm_times x b hx hb rfl rfl (nm_r (nI_1 k) h))
theorem qm_c66 {post : St2 → Prop} {J : Int32 → Int32 → Int32 → Int32 → Int32 → Prop} {x1 x3 ln df : Int32} {a1 a2 a5 a6 a7 a8 a10 : Nat → Int32} {N b x k w o v : Nat} (hk : k < 8) (hx : x < 8) (hb : b < 8) (h : J x3 (nI (o ^^^ w)) (nI (v ^^^ (if 4 ≤ k then 0 else qm_m (qm_g N k) x))) (nI (qm_m x b)) (nI (k + 1))) : wX_correct_66 post J x1 (nI b) x3 (nI v) (nI x) (nI k) (nI w) (nI o) ln df a1 a2 (qm_v qm_PW) (qm_v qm_EX) a5 a6 a7 a8 (qm_v N) a10 := by
  refine nm_r (qm_nx o w) (pk_le 4 k (fun z => ?_) (fun z => ⟨pk_in k 4 (by omega), qm_times (qm_g N k) x (qm_gl _ _) hx (qm_get (by omega)) rfl ?_⟩))
  · rw [if_pos z] at h
    exact qm_c94 hx hb h
  · rw [if_neg (show ¬ 4 ≤ k by omega)] at h
    exact qm_c94 hx hb h
theorem qm_c24 {post : St2 → Prop} {ln df : Int32} {a1 a2 a5 a7 a8 : Nat → Int32} {R N Z b p : Nat} (hp : p < 7) (hb : b < 8) : ∀ (n k u o v x : Nat), k + n = 8 → u < 8 → o < 8 → v < 8 → x < 8 → post (ln, df, a1, a2, qm_v qm_PW, qm_v qm_EX, a5, qm_v R, a7, a8, qm_v N, qm_v (qm_coE p Z (qm_up (qm_coF R N b) n k (u, o, v, x)))) → wX_correct_24 post (nI p) (nI b) ln df a1 a2 (qm_v qm_PW) (qm_v qm_EX) a5 (qm_v R) a7 a8 (qm_v N) (qm_v Z) (n + 1) (nI u) (nI o) (nI v) (nI x) (nI k) := by
  intro n
  induction n with
  | zero =>
    intro k u o v x hk hu ho hv hx h
    have e : qm_coE p Z (u, o, v, x) = if u = 0 then (if o = 0 then Z else qm_s Z p (qm_g Z p ^^^ qm_o v (qm_m o (qm_g qm_PW p)))) else Z := rfl
    rw [show qm_up (qm_coF R N b) 0 k (u, o, v, x) = (u, o, v, x) from rfl, e] at h
    refine pk_le 8 k (fun _ => pk_eq u 0 (fun z => pk_eq o 0 (fun w => ?_) (fun w => ⟨pk_in p 14 (by omega), qm_times o (qm_g qm_PW p) ho (qm_gl _ _) rfl (qm_get (by omega)) ⟨pk_in p 7 hp, qm_over v (qm_m o (qm_g qm_PW p)) hv (qm_ml _ _) rfl rfl ⟨pk_in p 7 hp, qm_pt p (qm_g Z p ^^^ qm_o v (qm_m o (qm_g qm_PW p))) (by omega) (qm_xl (qm_gl _ _) (qm_ol _ _)) (by rw [qm_get (by omega), qm_nx]) ?_⟩⟩⟩)) (fun z => ?_)) (fun z => absurd z (by omega))
    · rw [if_pos z, if_pos w] at h
      exact h
    · rw [if_pos z, if_neg w] at h
      exact h
    · rw [if_neg z] at h
      exact h
  | succ n ih =>
    intro k u o v x hk hu ho hv hx h
    have b0 : (if k % 2 = 0 then 0 else qm_m (qm_g R k) x) < 8 := by
      split
      · omega
      · exact qm_ml _ _
    have b1 : (if 4 ≤ k then 0 else qm_m (qm_g N k) x) < 8 := by
      split
      · omega
      · exact qm_ml _ _
    have t := ih (k + 1) (u ^^^ qm_m (qm_g R k) x) (o ^^^ (if k % 2 = 0 then 0 else qm_m (qm_g R k) x)) (v ^^^ (if 4 ≤ k then 0 else qm_m (qm_g N k) x)) (qm_m x b) (by omega) (qm_xl hu (qm_ml _ _)) (qm_xl ho b0) (qm_xl hv b1) (qm_ml _ _) h
    have e : nI k &&& 1 = nI (k % 2) := pk_andN (show k < 2 ^ 32 by omega) 1 (by decide)
    refine pk_le 8 k (fun z => absurd z (by omega)) (fun _ => ⟨pk_in k 10 (by omega), qm_times (qm_g R k) x (qm_gl _ _) hx (qm_get (by omega)) rfl (nm_r (qm_nx _ _) (pk_eq (k % 2) 0 (fun z => ?_) (fun z => ?_) e))⟩)
    · rw [if_pos z] at t
      exact qm_c66 (w := 0) (by omega) hx hb t
    · rw [if_neg z] at t
      exact qm_c66 (by omega) hx hb t
theorem qm_wco {post : St2 → Prop} {ln df : Int32} {a1 a2 a5 a7 a8 : Nat → Int32} {R N Z : Nat} (p : Nat) (hp : p < 7) (h : post (ln, df, a1, a2, qm_v qm_PW, qm_v qm_EX, a5, qm_v R, a7, a8, qm_v N, qm_v (qm_co R N p Z))) : wpX_correct post (ln, df, a1, a2, qm_v qm_PW, qm_v qm_EX, a5, qm_v R, a7, a8, qm_v N, qm_v Z) (nI p) := by
  have e : (7 : Int32) - nI p = nI (7 - p) := pk_sub (a := 7) (by omega)
  exact ⟨pk_in (7 - p) 14 (by omega) e, nm_r (by rw [e, qm_get (by omega)]) ⟨9, qm_c24 hp (qm_gl _ _) 8 0 0 0 0 1 (by omega) (by omega) (by omega) (by omega) (by omega) h⟩⟩
/-! isRight -/
def qm_end (post : Int32 → St2 → Prop) (q : Nat) (ln : Int32) (W M Y R H B N Z : Nat) : Prop := (∀ j, 1 ≤ j → j < 5 → qm_val Z (qm_g qm_PW j) = 0) ∧ ¬ (4 : Int32) < 2 * qm_df W M Z + nI q ∧ post 1 (qm_S ln (qm_df W M Z) W M Y R H B N Z)
theorem qm_r59 {post : Int32 → St2 → Prop} {ln df : Int32} {a1 a2 a5 a6 a7 a8 a9 : Nat → Int32} {q Z : Nat} (hz : ∀ j, 1 ≤ j → j < 5 → qm_val Z (qm_g qm_PW j) = 0) (hd : ¬ (4 : Int32) < 2 * df + nI q) (h : post 1 (ln, df, a1, a2, qm_v qm_PW, qm_v qm_EX, a5, a6, a7, a8, a9, qm_v Z)) : ∀ (n k : Nat), k + n = 5 → 1 ≤ k → wX_isRight_59 post (nI q) ln df a1 a2 (qm_v qm_PW) (qm_v qm_EX) a5 a6 a7 a8 a9 (qm_v Z) (n + 1) (nI k) := by
  intro n
  induction n with
  | zero => exact fun k hk h1 => pk_le 5 k (fun _ => br_f hd h) (fun z => absurd z (by omega))
  | succ n ih =>
    intro k hk h1
    refine pk_le 5 k (fun z => absurd z (by omega)) (fun _ => ⟨pk_in k 14 (by omega), qm_value (qm_g qm_PW k) (qm_gl _ _) (qm_get (by omega)) ?_⟩)
    rw [hz k h1 (by omega)]
    exact br_t rfl (nm_r (nI_1 k) (ih (k + 1) (by omega) (by omega)))
theorem qm_r7 {post : Int32 → St2 → Prop} {ln : Int32} {a5 a6 a7 a8 a9 : Nat → Int32} {q W M Z : Nat} (hz : ∀ j, 1 ≤ j → j < 5 → qm_val Z (qm_g qm_PW j) = 0) : ∀ (n p : Nat) (d : Int32), p + n = 7 → ¬ (4 : Int32) < 2 * qm_up (qm_dfF W M Z) n p d + nI q → post 1 (ln, qm_up (qm_dfF W M Z) n p d, qm_v W, qm_v M, qm_v qm_PW, qm_v qm_EX, a5, a6, a7, a8, a9, qm_v Z) → wX_isRight_7 post (nI q) ln (qm_v W) (qm_v M) (qm_v qm_PW) (qm_v qm_EX) a5 a6 a7 a8 a9 (qm_v Z) (n + 1) (nI p) d := by
  intro n
  induction n with
  | zero => exact fun p d hp hd h => pk_le 7 p (fun _ => ⟨5, qm_r59 hz hd h 4 1 rfl (by omega)⟩) (fun z => absurd z (by omega))
  | succ n ih =>
    intro p d hp hd h
    have gM : qm_g M p < 2 ^ 31 := Nat.lt_trans (qm_gl _ _) (by decide)
    have gZ : qm_g Z p < 2 ^ 31 := Nat.lt_trans (qm_gl _ _) (by decide)
    have gW : qm_g W p < 2 ^ 31 := Nat.lt_trans (qm_gl _ _) (by decide)
    rw [qm_upS] at hd h
    unfold qm_dfF at hd h
    refine pk_le 7 p (fun z => absurd z (by omega)) (fun _ => ⟨pk_in p 7 (by omega), pk_eq (qm_g M p) 0 (fun z => ⟨pk_in p 7 (by omega), pk_in p 7 (by omega), pk_eq (qm_g Z p) (qm_g W p) (fun w => ?_) (fun w => ?_) (qm_get (by omega)) (qm_get (by omega)) gZ gW⟩) (fun z => ?_) (qm_get (by omega)) rfl gM⟩)
    · rw [if_pos z, if_pos w] at hd h
      exact nm_e (nm_r (nI_1 p) (ih (p + 1) (d + 0) (by omega) hd h))
    · rw [if_pos z, if_neg w] at hd h
      exact nm_e (nm_r (nI_1 p) (ih (p + 1) (d + 1) (by omega) hd h))
    · rw [if_neg z] at hd h
      exact nm_e (nm_r (nI_1 p) (ih (p + 1) (d + 0) (by omega) hd h))
theorem qm_wright {post : Int32 → St2 → Prop} {ln df : Int32} {q W M Y R H B N Z : Nat} (h : qm_end post q ln W M Y R H B N Z) : wpX_isRight post (qm_S ln df W M Y R H B N Z) (nI q) :=
  ⟨8, qm_r7 h.1 7 0 0 rfl h.2.1 h.2.2⟩
/-! findWhole -/
theorem qm_f96 {post : Int32 → St2 → Prop} {ln : Int32} {q W M Y R H B N : Nat} : ∀ (n p Z : Nat) (df : Int32), p + n = 7 → qm_end post q ln W M Y R H B N (qm_up (qm_co R N) n p Z) → wX_findWhole_96 post (nI q) (n + 1) (nI p) ln df (qm_v W) (qm_v M) (qm_v qm_PW) (qm_v qm_EX) (qm_v Y) (qm_v R) (qm_v H) (qm_v B) (qm_v N) (qm_v Z) := by
  intro n
  induction n with
  | zero => exact fun p Z df hp h => pk_le 7 p (fun _ => qm_wright (Y := Y) (R := R) (H := H) (B := B) (N := N) ⟨h.1, h.2.1, rfl, h.2.2⟩) (fun z => absurd z (by omega))
  | succ n ih =>
    intro p Z df hp h
    exact pk_le 7 p (fun z => absurd z (by omega)) (fun _ => qm_wco p (by omega) (nm_r (nI_1 p) (ih (p + 1) _ _ (by omega) h)))
/-- what is left at buildRule's call -/
def qm_E1 (post : Int32 → St2 → Prop) (q W M Y R H B N Z : Nat) : Prop := qm_end post q (qm_rl q M Y R H B).1 W M Y (qm_rl q M Y R H B).2.1 (qm_rl q M Y R H B).2.2.1 (qm_rl q M Y R H B).2.2.2 (qm_nu (qm_rl q M Y R H B).2.1 Y N) (qm_up (qm_co (qm_rl q M Y R H B).2.1 (qm_nu (qm_rl q M Y R H B).2.1 Y N)) 7 0 Z)
theorem qm_f54 {post : Int32 → St2 → Prop} {ln df : Int32} {q W M R H B N Z : Nat} (hq : q ≤ 4) : ∀ (n k Y : Nat), k + n = 5 → 1 ≤ k → qm_E1 post q W M (qm_up (qm_Yf W) n k Y) R H B N Z → wX_findWhole_54 post (nI q) ln df (n + 1) (nI k) (qm_v W) (qm_v M) (qm_v qm_PW) (qm_v qm_EX) (qm_v Y) (qm_v R) (qm_v H) (qm_v B) (qm_v N) (qm_v Z) := by
  intro n
  induction n with
  | zero => exact fun k Y hk h1 h => pk_le 5 k (fun _ => qm_wrule hq (qm_wnum ⟨8, qm_f96 7 0 Z _ rfl h⟩)) (fun z => absurd z (by omega))
  | succ n ih =>
    intro k Y hk h1 h
    exact pk_le 5 k (fun z => absurd z (by omega)) (fun _ => ⟨pk_in k 14 (by omega), qm_value2 (qm_g qm_PW k) (qm_gl _ _) (qm_get (by omega)) ⟨pk_in k 5 (by omega), qm_pt k _ (by omega) (qm_vl _ _) rfl (nm_r (nI_1 k) (ih (k + 1) _ (by omega) (by omega) h))⟩⟩)
theorem qm_f4 {post : Int32 → St2 → Prop} {ln df : Int32} {W M Y R H B N : Nat} : ∀ (n p l Z : Nat), p + n = 7 → l ≤ p → qm_up (qm_qf M) n p l ≤ 4 → qm_E1 post (qm_up (qm_qf M) n p l) W M (qm_up (qm_Yf W) 4 1 Y) R H B N (qm_up (qm_cpf W) n p Z) → wX_findWhole_4 post ln df (n + 1) (nI l) (nI p) (qm_v W) (qm_v M) (qm_v qm_PW) (qm_v qm_EX) (qm_v Y) (qm_v R) (qm_v H) (qm_v B) (qm_v N) (qm_v Z) := by
  intro n
  induction n with
  | zero => exact fun p l Z hp hl hq h => pk_le 7 p (fun _ => br_t (nI_le (b := 4) hq (by omega)) ⟨5, qm_f54 hq 4 1 Y rfl (by omega) h⟩) (fun z => absurd z (by omega))
  | succ n ih =>
    intro p l Z hp hl hq h
    have gM : qm_g M p < 2 ^ 31 := Nat.lt_trans (qm_gl _ _) (by decide)
    rw [qm_upS] at hq
    rw [qm_upS (qm_qf M), qm_upS (qm_cpf W)] at h
    unfold qm_qf at hq h
    refine pk_le 7 p (fun z => absurd z (by omega)) (fun _ => ⟨pk_in p 7 (by omega), pk_in p 7 (by omega), qm_pt p (qm_g W p) (by omega) (qm_gl _ _) (qm_get (by omega)) ⟨pk_in p 7 (by omega), pk_eq (qm_g M p) 0 (fun z => ?_) (fun z => ?_) (qm_get (by omega)) rfl gM⟩⟩)
    · rw [if_pos z] at hq h
      exact nm_r (Int32.add_zero _) (nm_r (nI_1 p) (ih (p + 1) l _ (by omega) (by omega) hq h))
    · rw [if_neg z] at hq h
      exact nm_r (nI_1 l) (nm_r (nI_1 p) (ih (p + 1) (l + 1) _ (by omega) (by omega) hq h))
/-- the state of a picture -/
abbrev qm_st (W M : Nat) (t : qm_T) : St2 := qm_S t.1 t.2.1 W M t.2.2.1 t.2.2.2.1 t.2.2.2.2.1 t.2.2.2.2.2.1 t.2.2.2.2.2.2.1 t.2.2.2.2.2.2.2
theorem qm_oke {q : Nat} {df : Int32} {Z : Nat} (h : qm_ok q df Z = true) : q ≤ 4 ∧ (∀ j, 1 ≤ j → j < 5 → qm_val Z (qm_g qm_PW j) = 0) ∧ ¬ (4 : Int32) < 2 * df + nI q := by
  unfold qm_ok at h
  rw [Bool.and_eq_true, Bool.and_eq_true, Bool.and_eq_true, Bool.and_eq_true, Bool.and_eq_true] at h
  obtain ⟨⟨h0, ⟨⟨h1, h2⟩, h3⟩, h4⟩, h5⟩ := h
  refine ⟨Nat.le_of_ble_eq_true h0, fun j a b => ?_, of_decide_eq_true h5⟩
  rcases (show j = 1 ∨ j = 2 ∨ j = 3 ∨ j = 4 by omega) with e | e | e | e
  · rw [e]; exact Nat.eq_of_beq_eq_true h1
  · rw [e]; exact Nat.eq_of_beq_eq_true h2
  · rw [e]; exact Nat.eq_of_beq_eq_true h3
  · rw [e]; exact Nat.eq_of_beq_eq_true h4
theorem qm_find {post : Int32 → St2 → Prop} {W M : Nat} {t : qm_T} (ok : qm_okF M (qm_F W M t) = true) (h : post 1 (qm_st W M (qm_F W M t))) : wpX_findWhole post (qm_st W M t) := by
  obtain ⟨k1, k2, k3⟩ := qm_oke ok
  exact ⟨8, qm_f4 7 0 0 _ rfl (by omega) k1 ⟨k2, k3, h⟩⟩
end
section
/-! the small methods -/
def qm_noP (x : Int32) : Prop := x < 0 ∨ 6 < x
def qm_noS (x : Int32) : Prop := x < 0 ∨ 7 < x
theorem qm_casP (x : Int32) : qm_noP x ∨ ∃ j, j < 7 ∧ x = nI j := by
  by_cases h : x < 0
  · exact Or.inl (Or.inl h)
  · by_cases h2 : 6 < x
    · exact Or.inl (Or.inr h2)
    · obtain ⟨j, hj, e⟩ := nI_of2 (M := 6) (n := 6) rfl h (Int32.not_lt.mp h2)
      exact Or.inr ⟨j, by omega, e⟩
theorem qm_casS (x : Int32) : qm_noS x ∨ ∃ j, j < 8 ∧ x = nI j := by
  by_cases h : x < 0
  · exact Or.inl (Or.inl h)
  · by_cases h2 : 7 < x
    · exact Or.inl (Or.inr h2)
    · obtain ⟨j, hj, e⟩ := nI_of2 (M := 7) (n := 7) rfl h (Int32.not_lt.mp h2)
      exact Or.inr ⟨j, by omega, e⟩
theorem qm_ip1 {post : Int32 → Prop} {j : Nat} (hj : j < 7) (h : post 1) : wpX_isPlace post () (nI j) := br_f (nI_pos (by omega)) (br_f (nI_nlt (a := 6) (by omega) (by omega)) h)
theorem qm_ip0 {post : Int32 → Prop} {x : Int32} (hx : qm_noP x) (h : post 0) : wpX_isPlace post () x := br_c (fun _ => h) (fun a => br_t (hx.resolve_left a) h)
theorem qm_is1 {post : Int32 → Prop} {j : Nat} (hj : j < 8) (h : post 1) : wpX_isSymbol post () (nI j) := br_f (nI_pos (by omega)) (br_f (nI_nlt (a := 7) (by omega) (by omega)) h)
theorem qm_is0 {post : Int32 → Prop} {x : Int32} (hx : qm_noS x) (h : post 0) : wpX_isSymbol post () x := br_c (fun _ => h) (fun a => br_t (hx.resolve_left a) h)
theorem qm_ch1 {post : Int32 → St2 → Prop} {ln df : Int32} {W M Y R H B N Z : Nat} {j c : Nat} (hj : j < 7) (hc : c < 8) (h : post (nI (qm_g W j)) (qm_S ln df (qm_s W j c) M Y R H B N Z)) : wpX_change post (qm_S ln df W M Y R H B N Z) (nI j) (nI c) := by
  unfold wpX_change
  exact qm_ip1 hj (br_f (by decide) (qm_is1 hc (br_f (by decide) ⟨pk_in j 7 hj, nm_r (qm_get (by omega)) ⟨pk_in j 7 hj, qm_pt j c (by omega) hc rfl h⟩⟩)))
theorem qm_ch2 {post : Int32 → St2 → Prop} {ln df : Int32} {W M Y R H B N Z : Nat} {j : Nat} {y : Int32} (hj : j < 7) (hy : qm_noS y) (h : post (-1) (qm_S ln df W M Y R H B N Z)) : wpX_change post (qm_S ln df W M Y R H B N Z) (nI j) y := by
  unfold wpX_change
  exact qm_ip1 hj (br_f (by decide) (qm_is0 hy (br_t rfl h)))
theorem qm_ch3 {post : Int32 → St2 → Prop} {ln df : Int32} {W M Y R H B N Z : Nat} {x y : Int32} (hx : qm_noP x) (h : post (-1) (qm_S ln df W M Y R H B N Z)) : wpX_change post (qm_S ln df W M Y R H B N Z) x y := by
  unfold wpX_change
  exact qm_ip0 hx (br_t rfl h)
theorem qm_at1 {post : Int32 → Prop} {ln df : Int32} {W M Y R H B N Z : Nat} {j : Nat} (hj : j < 7) (h : post (nI (qm_g W j))) : wpX_at post (qm_S ln df W M Y R H B N Z) (nI j) := by
  have t : post (qm_v W (nI j).toNatClampNeg) := by
    rw [qm_get (by omega)]
    exact h
  unfold wpX_at
  exact qm_ip1 hj (br_f (by decide) ⟨pk_in j 7 hj, t⟩)
theorem qm_at0 {post : Int32 → Prop} {ln df : Int32} {W M Y R H B N Z : Nat} {x : Int32} (hx : qm_noP x) (h : post (-1)) : wpX_at post (qm_S ln df W M Y R H B N Z) x := by
  unfold wpX_at
  exact qm_ip0 hx (br_t rfl h)
theorem qm_wrong {post : Int32 → St2 → Prop} {W M : Nat} {t : qm_T} (ok : qm_okF M (qm_F W M t) = true) (h : post (qm_F W M t).2.1 (qm_st W M (qm_F W M t))) : wpX_wrong post (qm_st W M t) :=
  qm_find ok (br_f (by decide) h)
theorem qm_md1 {post : Int32 → St2 → Prop} {W M : Nat} {t : qm_T} {j : Nat} (hj : j < 7) (ok : qm_okF M (qm_F W M t) = true) (h : post (nI (qm_g (qm_F W M t).2.2.2.2.2.2.2 j)) (qm_st W M (qm_F W M t))) : wpX_mended post (qm_st W M t) (nI j) := by
  have u : post (qm_v (qm_F W M t).2.2.2.2.2.2.2 (nI j).toNatClampNeg) (qm_st W M (qm_F W M t)) := by
    rw [qm_get (by omega)]
    exact h
  unfold wpX_mended
  exact qm_ip1 hj (br_f (by decide) (qm_find ok (br_f (by decide) ⟨pk_in j 7 hj, u⟩)))
theorem qm_md0 {post : Int32 → St2 → Prop} {ln df : Int32} {W M Y R H B N Z : Nat} {x : Int32} (hx : qm_noP x) (h : post (-1) (qm_S ln df W M Y R H B N Z)) : wpX_mended post (qm_S ln df W M Y R H B N Z) x := by
  unfold wpX_mended
  exact qm_ip0 hx (br_t rfl h)
theorem qm_ls1 {post : Int32 → St2 → Prop} {ln df : Int32} {W M Y R H B N Z : Nat} {j : Nat} (hj : j < 7) (hm : qm_g M j = 0) (h : post 0 (qm_S ln df W (qm_s M j 1) Y R H B N Z)) : wpX_lose post (qm_S ln df W M Y R H B N Z) (nI j) 1 := by
  unfold wpX_lose
  exact qm_ip1 hj (br_f (by decide) ⟨pk_in j 7 hj, br_t ((qm_get (by omega)).trans (by rw [hm]; rfl)) ⟨pk_in j 7 hj, qm_pt j 1 (by omega) (by omega) rfl h⟩⟩)
theorem qm_ls0 {post : Int32 → St2 → Prop} {ln df : Int32} {W M Y R H B N Z : Nat} {x : Int32} (hx : qm_noP x) (h : post (-1) (qm_S ln df W M Y R H B N Z)) : wpX_lose post (qm_S ln df W M Y R H B N Z) x 1 := by
  unfold wpX_lose
  exact qm_ip0 hx (br_t rfl h)
theorem qm_pr1 {post : Int32 → Prop} {ln df : Int32} {W M Y R H B N Z : Nat} {a b : Nat} {y : Int32} (ha : a < 8) (hb : b < 8) (e : y = nI b) (h : post (nI (qm_m a b))) : wpX_product post (qm_S ln df W M Y R H B N Z) (nI a) y := by
  subst e
  unfold wpX_product
  exact qm_is1 ha (br_f (by decide) (qm_is1 hb (br_f (by decide) (qm_times a b ha hb rfl rfl h))))
theorem qm_pr2 {post : Int32 → Prop} {ln df : Int32} {W M Y R H B N Z : Nat} {a : Nat} {y : Int32} (ha : a < 8) (hy : qm_noS y) (h : post (-1)) : wpX_product post (qm_S ln df W M Y R H B N Z) (nI a) y := by
  unfold wpX_product
  exact qm_is1 ha (br_f (by decide) (qm_is0 hy (br_t rfl h)))
theorem qm_pr3 {post : Int32 → Prop} {ln df : Int32} {W M Y R H B N Z : Nat} {x y : Int32} (hx : qm_noS x) (h : post (-1)) : wpX_product post (qm_S ln df W M Y R H B N Z) x y := by
  unfold wpX_product
  exact qm_is0 hx (br_t rfl h)
theorem qm_vl1 {post : Int32 → Prop} {ln df : Int32} {W M Y R H B N Z : Nat} (h : post (nI (qm_val W 1))) : wpX_value post (qm_S ln df W M Y R H B N Z) 1 := by
  unfold wpX_value
  exact qm_is1 (j := 1) (by omega) (br_f (by decide) (qm_value2 1 (by omega) rfl h))
/-! send -/
theorem qm_d13 {post : St2 → Prop} {ln df : Int32} {W M Y R H B N Z : Nat} (h : ∀ W', post (qm_S ln df W' M Y R H B N Z)) : ∀ (n r0 r1 r2 r3 : Nat), n ≤ 3 → r0 < 8 → r1 < 8 → r2 < 8 → r3 < 8 → wX_divideAway_13 post ln df (qm_v W) (qm_v M) (qm_v qm_PW) (qm_v qm_EX) (qm_v Y) (qm_v R) (qm_v H) (qm_v B) (qm_v N) (qm_v Z) (n + 1) (nI r0) (nI r1) (nI r2) (nI r3) (nI (n + 3)) := by
  intro n
  induction n with
  | zero => exact fun r0 r1 r2 r3 _ h0 h1 h2 h3 => pk_lt 3 4 (fun _ => qm_pn 0 r0 h0 rfl (qm_pn 1 r1 h1 rfl (qm_pn 2 r2 h2 rfl (qm_pn 3 r3 h3 rfl (h _))))) (fun z => absurd z (by omega))
  | succ n ih =>
    intro r0 r1 r2 r3 hn h0 h1 h2 h3
    have l : qm_g W (n + 1 + 3) ^^^ r3 < 8 := qm_xl (qm_gl _ _) h3
    exact pk_lt (n + 1 + 3) 4 (fun z => absurd z (by omega)) (fun _ => ⟨pk_in (n + 1 + 3) 7 (by omega), nm_r (by rw [qm_get (by omega), qm_nx]) (qm_times _ 3 l (by omega) rfl rfl (nm_r (qm_nx _ _) (nm_r (qm_nx _ _) (qm_times _ 2 l (by omega) rfl rfl (nm_r (qm_nx _ _) (qm_times _ 3 l (by omega) rfl rfl (nm_r (pk_m1 (n + 3)) (ih _ _ _ _ (by omega) (qm_ml _ _) (qm_xl h0 (qm_ml _ _)) (qm_xl h1 l) (qm_xl h2 (qm_ml _ _)))))))))) ⟩)
theorem qm_wdiv {post : St2 → Prop} {ln df : Int32} {W M Y R H B N Z : Nat} (h : ∀ W', post (qm_S ln df W' M Y R H B N Z)) : wpX_divideAway post (qm_S ln df W M Y R H B N Z) :=
  ⟨4, qm_d13 h 3 0 0 0 0 (by omega) (by omega) (by omega) (by omega) (by omega)⟩
theorem qm_s71 {post : Int32 → St2 → Prop} {J : Int32 → (Nat → Int32) → (Nat → Int32) → (Nat → Int32) → (Nat → Int32) → (Nat → Int32) → (Nat → Int32) → (Nat → Int32) → (Nat → Int32) → (Nat → Int32) → (Nat → Int32) → Prop} {ln df : Int32} {W M Y R H B N Z : Nat} {x1 x2 x3 : Int32} {c p : Nat} (hp : p < 7) (hc : c < 8) (h : ∀ W' M', J (nI (p + 1)) (qm_v W') (qm_v M') (qm_v qm_PW) (qm_v qm_EX) (qm_v Y) (qm_v R) (qm_v H) (qm_v B) (qm_v N) (qm_v Z)) : wX_send_71 post J x1 x2 x3 (nI p) (nI c) (nI p) ln df (qm_v W) (qm_v M) (qm_v qm_PW) (qm_v qm_EX) (qm_v Y) (qm_v R) (qm_v H) (qm_v B) (qm_v N) (qm_v Z) :=
  ⟨pk_in p 7 hp, qm_pt p c (by omega) hc rfl ⟨pk_in p 7 hp, qm_pt p 0 (by omega) (by omega) rfl (nm_r (nI_1 p) (h _ _))⟩⟩
theorem qm_s26 {post : Int32 → St2 → Prop} {ln df : Int32} {Y R H B N Z a b c : Nat} (ha : a < 8) (hb : b < 8) (hc : c < 8) (h : ∀ W' M', post 0 (qm_S ln df W' M' Y R H B N Z)) : ∀ (n p W M : Nat), p + n = 7 → wX_send_26 post (nI a) (nI b) (nI c) ln df (n + 1) (nI p) (qm_v W) (qm_v M) (qm_v qm_PW) (qm_v qm_EX) (qm_v Y) (qm_v R) (qm_v H) (qm_v B) (qm_v N) (qm_v Z) := by
  intro n
  induction n with
  | zero => exact fun p W M hp => pk_le 7 p (fun _ => qm_wdiv (fun W' => h W' M)) (fun z => absurd z (by omega))
  | succ n ih =>
    intro p W M hp
    have t : ∀ W' M', wX_send_26 post (nI a) (nI b) (nI c) ln df (n + 1) (nI (p + 1)) (qm_v W') (qm_v M') (qm_v qm_PW) (qm_v qm_EX) (qm_v Y) (qm_v R) (qm_v H) (qm_v B) (qm_v N) (qm_v Z) := fun W' M' => ih (p + 1) W' M' (by omega)
    exact pk_le 7 p (fun z => absurd z (by omega)) (fun _ => pk_eq p 4 (fun _ => qm_s71 (by omega) ha t) (fun _ => pk_eq p 5 (fun _ => qm_s71 (by omega) hb t) (fun _ => pk_eq p 6 (fun _ => qm_s71 (by omega) hc t) (fun _ => qm_s71 (c := 0) (by omega) (by omega) t))))
theorem qm_sn1 {post : Int32 → St2 → Prop} {ln df : Int32} {W M Y R H B N Z : Nat} {a b : Nat} (ha : a < 8) (hb : b < 8) (h : ∀ W' M', post 0 (qm_S ln df W' M' Y R H B N Z)) : wpX_send post (qm_S ln df W M Y R H B N Z) (nI a) (nI b) 0 := by
  unfold wpX_send
  exact qm_is1 ha (br_f (by decide) (qm_is1 hb (br_f (by decide) (qm_is1 (j := 0) (by omega) (br_f (by decide) ⟨8, qm_s26 (c := 0) ha hb (by omega) h 7 0 W M rfl⟩)))))
theorem qm_sn2 {post : Int32 → St2 → Prop} {ln df : Int32} {W M Y R H B N Z : Nat} {a : Nat} {y : Int32} (ha : a < 8) (hy : qm_noS y) (h : post (-1) (qm_S ln df W M Y R H B N Z)) : wpX_send post (qm_S ln df W M Y R H B N Z) (nI a) y 0 := by
  unfold wpX_send
  exact qm_is1 ha (br_f (by decide) (qm_is0 hy (br_t rfl h)))
theorem qm_sn3 {post : Int32 → St2 → Prop} {ln df : Int32} {W M Y R H B N Z : Nat} {x y : Int32} (hx : qm_noS x) (h : post (-1) (qm_S ln df W M Y R H B N Z)) : wpX_send post (qm_S ln df W M Y R H B N Z) x y 0 := by
  unfold wpX_send
  exact qm_is0 hx (br_t rfl h)
/-! the constructor -/
def qm_inX (x : Nat) : Nat := if x < 4 then 2 * x else (2 * x - 8) ^^^ 3
def qm_inF (k : Nat) (t : Nat × Nat × Nat) : Nat × Nat × Nat := (qm_inX t.1, qm_s t.2.1 k t.1, if 7 ≤ k then t.2.2 else qm_s t.2.2 t.1 k)
theorem qm_i112 {post : St2 → Prop} {J : Int32 → Int32 → (Nat → Int32) → (Nat → Int32) → (Nat → Int32) → (Nat → Int32) → (Nat → Int32) → (Nat → Int32) → (Nat → Int32) → (Nat → Int32) → (Nat → Int32) → (Nat → Int32) → Prop} {mc ms kc ks : Nat} {ln df : Int32} {a1 a2 a3 a4 a5 a6 a7 a8 a9 a10 : Nat → Int32} {x k : Nat} (hx : x < 8) (h : J (nI (qm_inX x)) (nI (k + 1)) a1 a2 a3 a4 a5 a6 a7 a8 a9 a10) : wX_init_112 post mc ms J (nI x) (nI k) kc ks ln df a1 a2 a3 a4 a5 a6 a7 a8 a9 a10 := by
  unfold qm_inX at h
  refine pk_lt x 4 (fun z => ?_) (fun z => ?_)
  · rw [if_pos z] at h
    exact nm_r (pk_mul 2 x) (nm_r (nI_1 k) h)
  · rw [if_neg (show ¬ x < 4 by omega)] at h
    have e : ((nI 2 * nI x) - nI 8) ^^^ nI 3 = nI ((2 * x - 8) ^^^ 3) := by rw [pk_mul, pk_sub (by omega), qm_nx]
    exact nm_r e (nm_r (nI_1 k) h)
theorem qm_inl {x : Nat} (hx : x < 8) : qm_inX x < 8 := by
  unfold qm_inX
  split
  · omega
  · exact qm_xl (by omega) (by omega)
theorem qm_i86 {post : St2 → Prop} {mc ms kc ks : Nat} {ln df : Int32} {a1 a2 a5 a6 a7 a8 a9 a10 : Nat → Int32} : ∀ (n k x P E : Nat), k + n = 14 → x < 8 → post (ln, df, a1, a2, qm_v (qm_up qm_inF n k (x, P, E)).2.1, qm_v (qm_up qm_inF n k (x, P, E)).2.2, a5, a6, a7, a8, a9, a10) → wX_init_86 post mc ms kc ks ln df (n + 1) (nI x) (nI k) a1 a2 (qm_v P) (qm_v E) a5 a6 a7 a8 a9 a10 := by
  intro n
  induction n with
  | zero => exact fun k x P E hk hx h => pk_le 14 k (fun _ => h) (fun z => absurd z (by omega))
  | succ n ih =>
    intro k x P E hk hx h
    have e : qm_inF k (x, P, E) = (qm_inX x, qm_s P k x, if 7 ≤ k then E else qm_s E x k) := rfl
    rw [qm_upS, e] at h
    refine pk_le 14 k (fun z => absurd z (by omega)) (fun _ => ⟨pk_in k 14 (by omega), qm_pt k x (by omega) hx rfl (pk_le 7 k (fun z => ?_) (fun z => ⟨pk_in x 8 hx, qm_pt x k (by omega) (by omega) rfl ?_⟩))⟩)
    · rw [if_pos z] at h
      exact qm_i112 hx (ih (k + 1) _ _ _ (by omega) (qm_inl hx) h)
    · rw [if_neg (show ¬ 7 ≤ k by omega)] at h
      exact qm_i112 hx (ih (k + 1) _ _ _ (by omega) (qm_inl hx) h)
theorem qm_inE : (qm_up qm_inF 14 0 (1, 0, 0)).2.1 = qm_PW ∧ (qm_up qm_inF 14 0 (1, 0, 0)).2.2 = qm_EX := by decide +kernel
theorem qm_init {post : St2 → Prop} (h : post (qm_S 0 0 0 0 0 0 0 0 0 0)) : wpX_init post 10 82 (0, 0) := by
  have t : wX_init_86 post 10 82 10 82 0 0 15 (nI 1) (nI 0) (qm_v 0) (qm_v 0) (qm_v 0) (qm_v 0) (qm_v 0) (qm_v 0) (qm_v 0) (qm_v 0) (qm_v 0) (qm_v 0) := by
    refine qm_i86 14 0 1 0 0 rfl (by omega) ?_
    rw [qm_inE.1, qm_inE.2]
    exact h
  rw [← qm_v0] at t
  exact ⟨by omega, by omega, by omega, by omega, by omega, by omega, by omega, by omega, by omega, by omega, by omega, by omega, by omega, by omega, by omega, by omega, by omega, by omega, by omega, by omega, 15, t⟩
end
section
/-! the law, from its end to its head -/
def qm_sy (x f : Int32) : Prop := (∃ a, a < 8 ∧ x = nI a ∧ f = 1) ∨ (qm_noS x ∧ f = 0)
theorem qm_comm : ∀ a, a < 8 → ∀ b, b < 8 → qm_m a b = qm_m b a := by decide +kernel
theorem qm_m1 : ∀ a, a < 8 → qm_m a 1 = a := by decide +kernel
theorem qm_m0 : ∀ a, a < 8 → qm_m a 0 = 0 := by decide +kernel
theorem qm_L305 {Q : Int32 → St0 → Prop} {mc ms kc ks : Nat} {ln df : Int32} {W M Y R H B N Z : Nat} {x3 x4 x9 x10 z : Int32} (hQ : Q 1 ()) (h3 : qm_sy x3 x9) (h4 : qm_sy x4 x10) : wL_lawOf_305 Q mc ms x3 x4 x9 x10 z z kc ks ln df (qm_v W) (qm_v M) (qm_v qm_PW) (qm_v qm_EX) (qm_v Y) (qm_v R) (qm_v H) (qm_v B) (qm_v N) (qm_v Z) := by
  refine br_t rfl ?_
  rcases h3 with ⟨a, ha, rfl, rfl⟩ | ⟨n3, rfl⟩
  · rcases h4 with ⟨b, hb, rfl, rfl⟩ | ⟨n4, rfl⟩
    · exact qm_sn1 ha hb (fun W' M' => br_f (by decide) (br_f (by decide) (br_t rfl hQ)))
    · exact qm_sn2 ha n4 (br_f (by decide) (br_t rfl (br_t rfl hQ)))
  · exact qm_sn3 n3 (br_t rfl (br_t rfl hQ))
/-- wrong's flag, the symbol, the value at 1 -/
def qm_vv (x8 x1 : Int32) (W : Nat) : Prop := (x8 = 0 → nI (qm_val W 1) = 0) ∧ (¬ x8 = 0 → nI (qm_val W 1) = x1)
theorem qm_L265 {Q : Int32 → St0 → Prop} {mc ms kc ks : Nat} {ln df : Int32} {W M Y R H B N Z : Nat} {x1 x3 x4 x8 x9 x10 z : Int32} (hQ : Q 1 ()) (hv : qm_vv x8 x1 W) (h3 : qm_sy x3 x9) (h4 : qm_sy x4 x10) : wL_lawOf_265 Q mc ms x1 x3 x4 x8 x9 x10 z z kc ks ln df (qm_v W) (qm_v M) (qm_v qm_PW) (qm_v qm_EX) (qm_v Y) (qm_v R) (qm_v H) (qm_v B) (qm_v N) (qm_v Z) := by
  refine br_t rfl ?_
  have t : wpX_value (fun r => ((x8 = 0 → wL_lawOf_305 Q mc ms x3 x4 x9 x10 0 r kc ks ln df (qm_v W) (qm_v M) (qm_v qm_PW) (qm_v qm_EX) (qm_v Y) (qm_v R) (qm_v H) (qm_v B) (qm_v N) (qm_v Z)) ∧ (¬ x8 = 0 → wL_lawOf_305 Q mc ms x3 x4 x9 x10 x1 r kc ks ln df (qm_v W) (qm_v M) (qm_v qm_PW) (qm_v qm_EX) (qm_v Y) (qm_v R) (qm_v H) (qm_v B) (qm_v N) (qm_v Z)))) (qm_S ln df W M Y R H B N Z) 1 := by
    refine qm_vl1 (br_c (fun z => ?_) (fun z => ?_))
    · rw [hv.1 z]
      exact qm_L305 hQ h3 h4
    · rw [hv.2 z]
      exact qm_L305 hQ h3 h4
  rcases h3 with ⟨a, ha, rfl, rfl⟩ | ⟨n3, rfl⟩
  · rcases h4 with ⟨b, hb, rfl, rfl⟩ | ⟨n4, rfl⟩
    · exact qm_pr1 ha hb rfl (qm_pr1 hb ha rfl (br_t (by rw [qm_comm a ha b hb]) t))
    · exact qm_pr2 ha n4 (qm_pr3 n4 (br_t rfl t))
  · rcases h4 with ⟨b, hb, rfl, rfl⟩ | ⟨n4, rfl⟩
    · exact qm_pr3 n3 (qm_pr2 hb n3 (br_t rfl t))
    · exact qm_pr3 n3 (qm_pr3 n4 (br_t rfl t))
theorem qm_L244 {Q : Int32 → St0 → Prop} {mc ms kc ks : Nat} {ln df : Int32} {W M Y R H B N Z : Nat} {x1 x3 x4 x8 x9 x10 z : Int32} (hQ : Q 1 ()) (hv : qm_vv x8 x1 W) (h3 : qm_sy x3 x9) (h4 : qm_sy x4 x10) : wL_lawOf_244 Q mc ms x1 x3 x4 x8 x9 x10 z z kc ks ln df (qm_v W) (qm_v M) (qm_v qm_PW) (qm_v qm_EX) (qm_v Y) (qm_v R) (qm_v H) (qm_v B) (qm_v N) (qm_v Z) := by
  refine br_t rfl ?_
  have t : ∀ y : Int32, wL_lawOf_265 Q mc ms x1 x3 x4 x8 x9 x10 y y kc ks ln df (qm_v W) (qm_v M) (qm_v qm_PW) (qm_v qm_EX) (qm_v Y) (qm_v R) (qm_v H) (qm_v B) (qm_v N) (qm_v Z) := fun y => qm_L265 hQ hv h3 h4
  rcases h4 with ⟨b, hb, rfl, rfl⟩ | ⟨n4, rfl⟩
  · refine qm_pr1 (b := 0) hb (by omega) rfl (br_f (by decide) ?_)
    rw [qm_m0 b hb]
    exact t 0
  · exact qm_pr3 n4 (br_t rfl (t (-1)))
theorem qm_L225 {Q : Int32 → St0 → Prop} {mc ms kc ks : Nat} {ln df : Int32} {W M Y R H B N Z : Nat} {x1 x3 x4 x8 x9 x10 : Int32} (hQ : Q 1 ()) (hv : qm_vv x8 x1 W) (h3 : qm_sy x3 x9) (h4 : qm_sy x4 x10) : wL_lawOf_225 Q mc ms x1 x3 x4 x8 x9 x10 kc ks ln df (qm_v W) (qm_v M) (qm_v qm_PW) (qm_v qm_EX) (qm_v Y) (qm_v R) (qm_v H) (qm_v B) (qm_v N) (qm_v Z) := by
  have t : ∀ y : Int32, wL_lawOf_244 Q mc ms x1 x3 x4 x8 x9 x10 y y kc ks ln df (qm_v W) (qm_v M) (qm_v qm_PW) (qm_v qm_EX) (qm_v Y) (qm_v R) (qm_v H) (qm_v B) (qm_v N) (qm_v Z) := fun y => qm_L244 hQ hv h3 h4
  rcases h3 with ⟨a, ha, rfl, rfl⟩ | ⟨n3, rfl⟩
  · refine qm_pr1 (b := 1) ha (by omega) rfl (br_f (by decide) ?_)
    rw [qm_m1 a ha]
    exact t (nI a)
  · exact qm_pr3 n3 (br_t rfl (t (-1)))
theorem qm_L206 {Q : Int32 → St0 → Prop} {mc ms kc ks : Nat} {ln df : Int32} {W M Y R H B N Z : Nat} {x1 x3 x4 x8 x9 : Int32} (hQ : Q 1 ()) (hv : qm_vv x8 x1 W) (h3 : qm_sy x3 x9) : wL_lawOf_206 Q mc ms x1 x3 x4 x8 x9 kc ks ln df (qm_v W) (qm_v M) (qm_v qm_PW) (qm_v qm_EX) (qm_v Y) (qm_v R) (qm_v H) (qm_v B) (qm_v N) (qm_v Z) := by
  rcases qm_casS x4 with n4 | ⟨b, hb, rfl⟩
  · have t : wL_lawOf_225 Q mc ms x1 x3 x4 x8 x9 0 kc ks ln df (qm_v W) (qm_v M) (qm_v qm_PW) (qm_v qm_EX) (qm_v Y) (qm_v R) (qm_v H) (qm_v B) (qm_v N) (qm_v Z) := qm_L225 hQ hv h3 (Or.inr ⟨n4, rfl⟩)
    exact br_c (fun _ => t) (fun a => br_t (n4.resolve_left a) t)
  · exact br_f (nI_pos (by omega)) (br_f (nI_nlt (a := 7) (by omega) (by omega)) (qm_L225 hQ hv h3 (Or.inl ⟨b, hb, rfl, rfl⟩)))
theorem qm_L178 {Q : Int32 → St0 → Prop} {mc ms kc ks : Nat} {W M : Nat} {t : qm_T} {x1 x3 x4 x8 z : Int32} (hQ : Q 1 ()) (hv : qm_vv x8 x1 W) (ok : qm_okF M (qm_F W M t) = true) (hd : (qm_F W M t).2.1 = 0) : wL_lawOf_178 Q mc ms x1 x3 x4 x8 z z kc ks t.1 t.2.1 (qm_v W) (qm_v M) (qm_v qm_PW) (qm_v qm_EX) (qm_v t.2.2.1) (qm_v t.2.2.2.1) (qm_v t.2.2.2.2.1) (qm_v t.2.2.2.2.2.1) (qm_v t.2.2.2.2.2.2.1) (qm_v t.2.2.2.2.2.2.2) := by
  refine br_t rfl (qm_wrong ok (br_t hd ?_))
  rcases qm_casS x3 with n3 | ⟨a, ha, rfl⟩
  · have t : wL_lawOf_206 Q mc ms x1 x3 x4 x8 0 kc ks (qm_F W M t).1 (qm_F W M t).2.1 (qm_v W) (qm_v M) (qm_v qm_PW) (qm_v qm_EX) (qm_v (qm_F W M t).2.2.1) (qm_v (qm_F W M t).2.2.2.1) (qm_v (qm_F W M t).2.2.2.2.1) (qm_v (qm_F W M t).2.2.2.2.2.1) (qm_v (qm_F W M t).2.2.2.2.2.2.1) (qm_v (qm_F W M t).2.2.2.2.2.2.2) := qm_L206 hQ hv (Or.inr ⟨n3, rfl⟩)
    exact br_c (fun _ => t) (fun a => br_t (n3.resolve_left a) t)
  · exact br_f (nI_pos (by omega)) (br_f (nI_nlt (a := 7) (by omega) (by omega)) (qm_L206 hQ hv (Or.inl ⟨a, ha, rfl, rfl⟩)))
/-- the place, its flag, what is missing after lose -/
def qm_pm (x0 x6 : Int32) (M : Nat) : Prop := (∃ j, j < 7 ∧ x0 = nI j ∧ x6 = 1 ∧ M = qm_s 0 j 1) ∨ (qm_noP x0 ∧ x6 = 0 ∧ M = 0)
theorem qm_g0 (i : Nat) : qm_g 0 i = 0 := by
  unfold qm_g
  rw [Nat.zero_shiftRight]
theorem qm_L158 {Q : Int32 → St0 → Prop} {mc ms kc ks : Nat} {W M : Nat} {t : qm_T} {x0 x1 x3 x4 x6 x8 z : Int32} (hQ : Q 1 ()) (hv : qm_vv x8 x1 W) (hm : qm_pm x0 x6 M) (ok : qm_okF M (qm_F W M t) = true) (hd : (qm_F W M t).2.1 = 0) : wL_lawOf_158 Q mc ms x0 x1 x3 x4 x6 x8 z z kc ks t.1 t.2.1 (qm_v W) (qm_v 0) (qm_v qm_PW) (qm_v qm_EX) (qm_v t.2.2.1) (qm_v t.2.2.2.1) (qm_v t.2.2.2.2.1) (qm_v t.2.2.2.2.2.1) (qm_v t.2.2.2.2.2.2.1) (qm_v t.2.2.2.2.2.2.2) := by
  refine br_t rfl ?_
  rcases hm with ⟨j, hj, rfl, rfl, rfl⟩ | ⟨n0, rfl, rfl⟩
  · exact qm_ls1 hj (qm_g0 j) (br_f (by decide) (qm_L178 hQ hv ok hd))
  · exact qm_ls0 n0 (br_t rfl (qm_L178 hQ hv ok hd))
/-- all that is asked of the picture -/
def qm_all5 (W M : Nat) (x8 : Int32) : Prop := qm_okF 0 (qm_t1 W) = true ∧ (qm_t1 W).2.1 = x8 ∧ qm_F W 0 (qm_t1 W) = qm_t1 W ∧ (qm_t1 W).2.2.2.2.2.2.2 = 0 ∧ qm_okF M (qm_F W M (qm_t1 W)) = true ∧ (qm_F W M (qm_t1 W)).2.1 = 0
theorem qm_L117 {Q : Int32 → St0 → Prop} {mc ms kc ks : Nat} {W M : Nat} {x0 x1 x2 x3 x4 x6 x8 : Int32} (hQ : Q 1 ()) (h8 : x8 = 0 ∨ x8 = 1) (hv : qm_vv x8 x1 W) (hm : qm_pm x0 x6 M) (ha : qm_all5 W M x8) : wL_lawOf_117 Q mc ms x0 x1 x2 x3 x4 x6 x8 kc ks qm_t0.1 qm_t0.2.1 (qm_v W) (qm_v 0) (qm_v qm_PW) (qm_v qm_EX) (qm_v qm_t0.2.2.1) (qm_v qm_t0.2.2.2.1) (qm_v qm_t0.2.2.2.2.1) (qm_v qm_t0.2.2.2.2.2.1) (qm_v qm_t0.2.2.2.2.2.2.1) (qm_v qm_t0.2.2.2.2.2.2.2) := by
  obtain ⟨k1, k2, k3, k4, k5, k6⟩ := ha
  have t : ∀ z : Int32, wL_lawOf_158 Q mc ms x0 x1 x3 x4 x6 x8 z z kc ks (qm_t1 W).1 (qm_t1 W).2.1 (qm_v W) (qm_v 0) (qm_v qm_PW) (qm_v qm_EX) (qm_v (qm_t1 W).2.2.1) (qm_v (qm_t1 W).2.2.2.1) (qm_v (qm_t1 W).2.2.2.2.1) (qm_v (qm_t1 W).2.2.2.2.2.1) (qm_v (qm_t1 W).2.2.2.2.2.2.1) (qm_v (qm_t1 W).2.2.2.2.2.2.2) := fun z => qm_L158 hQ hv hm k5 k6
  have u : ∀ z : Int32, wL_lawOf_134 Q mc ms x0 x1 x2 x3 x4 x6 x8 z z kc ks (qm_t1 W).1 (qm_t1 W).2.1 (qm_v W) (qm_v 0) (qm_v qm_PW) (qm_v qm_EX) (qm_v (qm_t1 W).2.2.1) (qm_v (qm_t1 W).2.2.2.1) (qm_v (qm_t1 W).2.2.2.2.1) (qm_v (qm_t1 W).2.2.2.2.2.1) (qm_v (qm_t1 W).2.2.2.2.2.2.1) (qm_v (qm_t1 W).2.2.2.2.2.2.2) := by
    intro z
    refine br_t rfl ?_
    rcases qm_casP x2 with n2 | ⟨j, hj, rfl⟩
    · exact qm_md0 n2 (br_c (fun _ => t (-1)) (fun a => br_f (fun b => absurd (n2.resolve_left a) (Int32.not_lt.mpr b)) (t (-1))))
    · refine qm_md1 hj (by rw [k3]; exact k1) ?_
      rw [k3, k4, qm_g0]
      exact br_f (nI_pos (by omega)) (br_t (nI_le (b := 6) (by omega) (by omega)) (t 0))
  refine qm_wrong (t := qm_t0) k1 ?_
  have e : (qm_F W 0 qm_t0).2.1 = x8 := k2
  rw [e]
  rcases h8 with rfl | rfl
  · exact br_t rfl (u 0)
  · exact br_f (by decide) (u 1)
/-! the picture's facts -/
theorem qm_eqE {s t : qm_T} (h : qm_eqT s t = true) : s = t := by
  obtain ⟨s1, s2, s3, s4, s5, s6, s7, s8⟩ := s
  obtain ⟨t1, t2, t3, t4, t5, t6, t7, t8⟩ := t
  unfold qm_eqT at h
  rw [Bool.and_eq_true, Bool.and_eq_true, Bool.and_eq_true, Bool.and_eq_true, Bool.and_eq_true, Bool.and_eq_true, Bool.and_eq_true] at h
  obtain ⟨h1, h2, h3, h4, h5, h6, h7, h8⟩ := h
  have e1 : s1 = t1 := of_decide_eq_true h1
  have e2 : s2 = t2 := of_decide_eq_true h2
  have e3 : s3 = t3 := Nat.eq_of_beq_eq_true h3
  have e4 : s4 = t4 := Nat.eq_of_beq_eq_true h4
  have e5 : s5 = t5 := Nat.eq_of_beq_eq_true h5
  have e6 : s6 = t6 := Nat.eq_of_beq_eq_true h6
  have e7 : s7 = t7 := Nat.eq_of_beq_eq_true h7
  have e8 : s8 = t8 := Nat.eq_of_beq_eq_true h8
  rw [e1, e2, e3, e4, e5, e6, e7, e8]
theorem qm_chkE {j c : Nat} (hj : j < 7) (hc : c < 8) : qm_all5 (qm_s 0 j c) (qm_s 0 j 1) (if c = 0 then 0 else 1) ∧ qm_val (qm_s 0 j c) 1 = c := by
  have h := qm_all j hj c hc
  unfold qm_chk at h
  rw [Bool.and_eq_true, Bool.and_eq_true, Bool.and_eq_true, Bool.and_eq_true, Bool.and_eq_true, Bool.and_eq_true] at h
  obtain ⟨⟨⟨⟨⟨⟨h1, h2⟩, h3⟩, h4⟩, h5⟩, h6⟩, h7⟩ := h
  exact ⟨⟨h1, of_decide_eq_true h2, qm_eqE h3, Nat.eq_of_beq_eq_true h4, h5, of_decide_eq_true h6⟩, Nat.eq_of_beq_eq_true h7⟩
theorem qm_s00 (j : Nat) : qm_s 0 j 0 = 0 := by
  unfold qm_s
  rw [qm_g0]
  show 0 ^^^ ((0 ^^^ 0) <<< (3 * j)) = 0
  rw [Nat.xor_self, Nat.zero_shiftLeft, Nat.xor_self]
theorem qm_z1 {j : Nat} (hj : j < 7) : qm_all5 0 (qm_s 0 j 1) 0 ∧ qm_val 0 1 = 0 := by
  have h := qm_chkE hj (show 0 < 8 by omega)
  rw [qm_s00, if_pos rfl] at h
  exact h
theorem qm_z0 : qm_all5 0 0 0 := by
  obtain ⟨⟨k1, k2, k3, k4, _, _⟩, _⟩ := qm_z1 (show 0 < 7 by omega)
  exact ⟨k1, k2, k3, k4, by rw [k3]; exact k1, by rw [k3]; exact k2⟩
theorem qm_v1 {W : Nat} {x1 : Int32} (h : qm_val W 1 = 0) : qm_vv 0 x1 W := ⟨fun _ => by rw [h]; rfl, fun z => absurd rfl z⟩
/-! the head -/
theorem qm_L41 {Q : Int32 → St0 → Prop} {mc ms kc ks : Nat} {x0 x1 x2 x3 x4 x6 x7 : Int32} (hQ : Q 1 ()) (h0 : (∃ j, j < 7 ∧ x0 = nI j ∧ x6 = 1) ∨ (qm_noP x0 ∧ x6 = 0)) (h1 : qm_sy x1 x7) : wL_lawOf_41 Q mc ms x0 x1 x2 x3 x4 x6 x7 kc ks qm_t0.1 qm_t0.2.1 (qm_v 0) (qm_v 0) (qm_v qm_PW) (qm_v qm_EX) (qm_v qm_t0.2.2.1) (qm_v qm_t0.2.2.2.1) (qm_v qm_t0.2.2.2.2.1) (qm_v qm_t0.2.2.2.2.2.1) (qm_v qm_t0.2.2.2.2.2.2.1) (qm_v qm_t0.2.2.2.2.2.2.2) := by
  rcases h0 with ⟨j, hj, rfl, rfl⟩ | ⟨n0, rfl⟩
  · rcases h1 with ⟨c, hc, rfl, rfl⟩ | ⟨n1, rfl⟩
    · obtain ⟨k, kv⟩ := qm_chkE hj hc
      refine qm_ch1 hj hc (br_f (by decide) (br_f (by decide) ?_))
      rw [qm_g0]
      refine br_t rfl (qm_at1 hj (br_f (by decide) (br_f (by decide) ?_)))
      rw [qm_gs 0 j c j hc, if_pos rfl]
      refine br_t rfl (br_f (by decide) (br_f (by decide) (pk_eq c 0 (fun z => ?_) (fun z => ?_))))
      · rw [if_pos z] at k
        exact qm_L117 hQ (Or.inl rfl) (qm_v1 (kv.trans z)) (Or.inl ⟨j, hj, rfl, rfl, rfl⟩) k
      · rw [if_neg z] at k
        exact qm_L117 hQ (Or.inr rfl) ⟨fun y => absurd y (by decide), fun _ => by rw [kv]⟩ (Or.inl ⟨j, hj, rfl, rfl, rfl⟩) k
    · obtain ⟨k, kv⟩ := qm_z1 hj
      refine qm_ch2 hj n1 (br_f (by decide) (br_t rfl (br_t rfl (qm_at1 hj (br_f (by decide) (br_t rfl ?_))))))
      rw [qm_g0]
      exact br_t rfl (br_f (by decide) (br_t rfl (qm_L117 hQ (Or.inl rfl) (qm_v1 kv) (Or.inl ⟨j, hj, rfl, rfl, rfl⟩) k)))
  · exact qm_ch3 n0 (br_t rfl (br_t rfl (qm_at0 n0 (br_t rfl (br_t rfl (br_t rfl (qm_L117 hQ (Or.inl rfl) (qm_v1 (qm_z1 (show 0 < 7 by omega)).2) (Or.inr ⟨n0, rfl, rfl⟩) qm_z0)))))))
theorem qm_L24 {Q : Int32 → St0 → Prop} {mc ms kc ks : Nat} {x0 x1 x2 x3 x4 x6 : Int32} (hQ : Q 1 ()) (h0 : (∃ j, j < 7 ∧ x0 = nI j ∧ x6 = 1) ∨ (qm_noP x0 ∧ x6 = 0)) : wL_lawOf_24 Q mc ms x0 x1 x2 x3 x4 x6 kc ks qm_t0.1 qm_t0.2.1 (qm_v 0) (qm_v 0) (qm_v qm_PW) (qm_v qm_EX) (qm_v qm_t0.2.2.1) (qm_v qm_t0.2.2.2.1) (qm_v qm_t0.2.2.2.2.1) (qm_v qm_t0.2.2.2.2.2.1) (qm_v qm_t0.2.2.2.2.2.2.1) (qm_v qm_t0.2.2.2.2.2.2.2) := by
  rcases qm_casS x1 with n1 | ⟨c, hc, rfl⟩
  · have t := qm_L41 (mc := mc) (ms := ms) (kc := kc) (ks := ks) (x2 := x2) (x3 := x3) (x4 := x4) hQ h0 (Or.inr ⟨n1, rfl⟩)
    exact br_c (fun _ => t) (fun a => br_t (n1.resolve_left a) t)
  · exact br_f (nI_pos (by omega)) (br_f (nI_nlt (a := 7) (by omega) (by omega)) (qm_L41 hQ h0 (Or.inl ⟨c, hc, rfl, rfl⟩)))
theorem qm_law {Q : Int32 → St0 → Prop} (hQ : Q 1 ()) (x0 x1 x2 x3 x4 : Int32) : wpL_lawOf Q 11 94 () x0 x1 x2 x3 x4 := by
  refine ⟨by omega, by omega, 10, 82, by omega, by omega, qm_init ?_⟩
  rcases qm_casP x0 with n0 | ⟨j, hj, rfl⟩
  · have t := qm_L24 (mc := 11) (ms := 94) (kc := 1 + 10) (ks := 12 + 82) (x1 := x1) (x2 := x2) (x3 := x3) (x4 := x4) hQ (Or.inr ⟨n0, rfl⟩)
    exact br_c (fun _ => t) (fun a => br_t (n0.resolve_left a) t)
  · exact br_f (nI_pos (by omega)) (br_f (nI_nlt (a := 6) (by omega) (by omega)) (qm_L24 hQ (Or.inl ⟨j, hj, rfl, rfl⟩)))
theorem qm_cell {post : Int32 → Prop} {L : Nat} {xs : Nat → Int32} {x : Int32} (k : Nat) (hL : L ≤ 5) (hk : k ≤ 4) (e : x = nI k) (h : ∀ r, post r) : wpL_cellAt post L xs () x :=
  pk_le L k (fun _ => h _) (fun z => ⟨pk_in k L z e, h _⟩) rfl e
end
section
theorem i_vc (xs : Nat → Int32) (L : Nat) (hL : L ≤ 5) : wpL_law (fun r => r = 1) L xs :=
  qm_cell 0 hL (by omega) rfl (fun _ => qm_cell 1 hL (by omega) rfl (fun _ => qm_cell 2 hL (by omega) rfl (fun _ => qm_cell 3 hL (by omega) rfl (fun _ => qm_cell 4 hL (by omega) rfl (fun _ => ⟨11, 94, by omega, by omega, qm_law rfl _ _ _ _ _⟩)))))
end
