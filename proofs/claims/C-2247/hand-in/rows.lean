section
/-! rows pasted from kit/rows/PURE-ROWS -/
theorem pk_us {f : Nat → Int32} {k : Nat} {x : Int32} : upd f k x k = x := if_pos rfl
theorem pk_un {f : Nat → Int32} {k j : Nat} {x : Int32} (h : j ≠ k) : upd f k x j = f j := if_neg h
theorem pk_sub {a b : Nat} (h : b ≤ a) : nI a - nI b = nI (a - b) := by
  obtain ⟨c, rfl⟩ : ∃ c, a = c + b := ⟨a - b, by omega⟩
  rw [← nI_add, Int32.add_sub_cancel, Nat.add_sub_cancel]
theorem pk_m1 (n : Nat) : nI (n + 1) + (-1) = nI n := by
  rw [← nI_1, Int32.add_assoc, show (1 : Int32) + (-1) = 0 from rfl, Int32.add_zero]
theorem pk_mul (a b : Nat) : nI a * nI b = nI (a * b) := (Int32.ofNat_mul a b).symm
theorem pk_div {a d : Nat} (ha : a < 2 ^ 31) (h0 : 0 < d) (hd : d < 2 ^ 31) : nI a / nI d = nI (a / d) := by
  apply Int32.toInt_inj.mp
  rw [lg_idiv_nonneg (by rw [nI_toInt ha]; omega) (by rw [nI_toInt hd]; omega), nI_toInt ha, nI_toInt hd, nI_toInt (Nat.lt_of_le_of_lt (Nat.div_le_self a d) ha)]
  first | rfl | exact (Int.natCast_ediv _ _).symm
theorem pk_rem {a d : Nat} (ha : a < 2 ^ 31) (h0 : 0 < d) (hd : d < 2 ^ 31) : nI a - nI a / nI d * nI d = nI (a % d) := by
  rw [pk_div ha h0 hd, pk_mul, pk_sub (Nat.div_mul_le_self a d)]
  exact congrArg nI (by have := Nat.div_add_mod' a d; omega)
theorem pk_sub_toInt {a b : Nat} (ha : a < 2 ^ 30) (hb : b < 2 ^ 30) : (nI a - nI b).toInt = (a : Int) - b := by
  rw [Int32.toInt_sub, nI_toInt (by omega), nI_toInt (by omega)]
  exact Int.bmod_eq_of_le (by omega) (by omega)
theorem pk_sneg {a b : Nat} (hb : b < 2 ^ 30) (h : a < b) : nI a - nI b < 0 := by
  rw [Int32.lt_iff_toInt_lt, pk_sub_toInt (by omega) hb, show (0 : Int32).toInt = 0 from by decide]
  omega
theorem pk_ix (x : Int32) {n : Nat} (hn : n < 2 ^ 31) : x < 0 ∨ nI n ≤ x ∨ ∃ j : Nat, j < n ∧ x = nI j := by
  by_cases h : x < 0
  · exact Or.inl h
  · obtain ⟨j, hj, rfl⟩ := nI_of h
    by_cases h2 : j < n
    · exact Or.inr (Or.inr ⟨j, h2, rfl⟩)
    · exact Or.inr (Or.inl (nI_le (by omega) hj))
theorem pk_le {x y : Int32} {A B : Prop} (a b : Nat) (f : a ≤ b → A) (g : b < a → B) (hx : x = nI a := by rfl) (hy : y = nI b := by rfl) (ha : a < 2 ^ 31 := by omega) (hb : b < 2 ^ 31 := by omega) : (x ≤ y → A) ∧ (¬ x ≤ y → B) := by
  subst hx hy
  rw [nI_leI ha hb]
  exact ⟨f, fun z => g (by omega)⟩
theorem pk_lt {x y : Int32} {A B : Prop} (a b : Nat) (f : a < b → A) (g : b ≤ a → B) (hx : x = nI a := by rfl) (hy : y = nI b := by rfl) (ha : a < 2 ^ 31 := by omega) (hb : b < 2 ^ 31 := by omega) : (x < y → A) ∧ (¬ x < y → B) := by
  subst hx hy
  rw [nI_ltI ha hb]
  exact ⟨f, fun z => g (by omega)⟩
theorem pk_eq {x y : Int32} {A B : Prop} (a b : Nat) (f : a = b → A) (g : a ≠ b → B) (hx : x = nI a := by rfl) (hy : y = nI b := by rfl) (ha : a < 2 ^ 31 := by omega) (hb : b < 2 ^ 31 := by omega) : (x = y → A) ∧ (¬ x = y → B) := by
  subst hx hy
  rw [nI_eq ha hb]
  exact ⟨f, g⟩
theorem pk_in {x : Int32} (n N : Nat) (h : n < N) (hx : x = nI n := by rfl) (hN : N < 2 ^ 31 := by omega) : vp_in x N := by
  subst hx
  exact vp_in_nI h hN
theorem pk_cl {x : Int32} (n : Nat) (hx : x = nI n := by rfl) (h : n < 2 ^ 31 := by omega) : x.toNatClampNeg = n := by
  subst hx
  exact nI_clamp h
theorem pk_least (P : Nat → Prop) (h : ∃ k, P k) : ∃ k, P k ∧ ∀ j, j < k → ¬ P j := by
  obtain ⟨k, hk⟩ := h
  induction k using Nat.strongRecOn with
  | ind k ih =>
    by_cases e : ∃ j, j < k ∧ P j
    · obtain ⟨j, hj, pj⟩ := e
      exact ih j hj pj
    · exact ⟨k, hk, fun j hj pj => e ⟨j, hj, pj⟩⟩
end
section
/-! relaxation by rules: pure -/
section
variable {lf cf rc : Nat → Nat} {nr : Nat}
def tr_nw (cf rc : Nat → Nat) (t : Nat → Nat) (r : Nat) : Nat := if t (cf r) < 1000000 then t (cf r) + rc r else 1000000
def tr_rx (lf cf rc : Nat → Nat) (t : Nat → Nat) (r : Nat) : Nat → Nat := fun e => if e = lf r then (if tr_nw cf rc t r < t (lf r) then tr_nw cf rc t r else t (lf r)) else t e
def tr_ps (lf cf rc : Nat → Nat) (t : Nat → Nat) : Nat → Nat → Nat
  | 0 => t
  | k + 1 => tr_rx lf cf rc (tr_ps lf cf rc t k) k
def tr_rd (lf cf rc : Nat → Nat) (nr : Nat) (t : Nat → Nat) : Nat → Nat → Nat
  | 0 => t
  | k + 1 => tr_ps lf cf rc (tr_rd lf cf rc nr t k) nr
theorem tr_rx_ne {t : Nat → Nat} {r e : Nat} (h : e ≠ lf r) : tr_rx lf cf rc t r e = t e := if_neg h
theorem tr_rx_le {t : Nat → Nat} {r e : Nat} : tr_rx lf cf rc t r e ≤ t e := by
  unfold tr_rx
  by_cases h : e = lf r
  · rw [if_pos h, h]
    split <;> omega
  · rw [if_neg h]; exact Nat.le_refl _
theorem tr_rx_id {t : Nat → Nat} {r : Nat} (h : t (lf r) ≤ tr_nw cf rc t r) : tr_rx lf cf rc t r = t := by
  funext e
  unfold tr_rx
  by_cases he : e = lf r
  · rw [if_pos he, if_neg (by omega), he]
  · rw [if_neg he]
theorem tr_rx_lt {t : Nat → Nat} {r : Nat} (h : tr_nw cf rc t r < t (lf r)) : tr_rx lf cf rc t r (lf r) = tr_nw cf rc t r := by
  unfold tr_rx
  rw [if_pos rfl, if_pos h]
theorem tr_nw_eq {t t' : Nat → Nat} {r : Nat} (h : t' (cf r) = t (cf r)) : tr_nw cf rc t' r = tr_nw cf rc t r := by
  unfold tr_nw; rw [h]
theorem tr_nw_ge {t : Nat → Nat} {r : Nat} (h : t (cf r) ≤ 1000000) : t (cf r) ≤ tr_nw cf rc t r := by
  unfold tr_nw
  split <;> omega
theorem tr_ps_le {t : Nat → Nat} {e : Nat} : ∀ k, tr_ps lf cf rc t k e ≤ t e
  | 0 => Nat.le_refl _
  | k + 1 => Nat.le_trans tr_rx_le (tr_ps_le k)
theorem tr_rd_le {t : Nat → Nat} {e : Nat} : ∀ k, tr_rd lf cf rc nr t k e ≤ t e
  | 0 => Nat.le_refl _
  | k + 1 => Nat.le_trans (tr_ps_le nr) (tr_rd_le k)
theorem tr_ps_hi (hl : ∀ r, r < nr → lf r < 4) {t : Nat → Nat} {e : Nat} (he : 4 ≤ e) : ∀ k, k ≤ nr → tr_ps lf cf rc t k e = t e
  | 0, _ => rfl
  | k + 1, h => by
    have a := hl k (by omega)
    show tr_rx lf cf rc (tr_ps lf cf rc t k) k e = t e
    rw [tr_rx_ne (by omega)]
    exact tr_ps_hi hl he k (by omega)
theorem tr_rd_hi (hl : ∀ r, r < nr → lf r < 4) {t : Nat → Nat} {e : Nat} (he : 4 ≤ e) : ∀ k, tr_rd lf cf rc nr t k e = t e
  | 0 => rfl
  | k + 1 => by
    show tr_ps lf cf rc (tr_rd lf cf rc nr t k) nr e = t e
    rw [tr_ps_hi hl he nr (Nat.le_refl _)]
    exact tr_rd_hi hl he k
/-- settled goals S: below all others, and every rule from a helper or from S is closed -/
def tr_C (lf cf rc : Nat → Nat) (nr : Nat) (t : Nat → Nat) (S : Nat → Prop) : Prop :=
  (∀ g h, S g → h < 4 → ¬ S h → t g ≤ t h) ∧ ∀ r, r < nr → (4 ≤ cf r ∨ S (cf r)) → t (lf r) ≤ tr_nw cf rc t r
theorem tr_A (hl : ∀ r, r < nr → lf r < 4) {t : Nat → Nat} : tr_C lf cf rc nr (tr_ps lf cf rc t nr) (fun _ => False) := by
  have key : ∀ k, k ≤ nr → ∀ r, r < k → 4 ≤ cf r → tr_ps lf cf rc t k (lf r) ≤ tr_nw cf rc t r := by
    intro k
    induction k with
    | zero => intro _ r hr; omega
    | succ k ih =>
      intro hk r hr hc
      have e : tr_ps lf cf rc t k (cf r) = t (cf r) := tr_ps_hi hl hc k (by omega)
      show tr_rx lf cf rc (tr_ps lf cf rc t k) k (lf r) ≤ _
      rcases Nat.lt_or_ge r k with h | h
      · exact Nat.le_trans tr_rx_le (ih (by omega) r h hc)
      · have : r = k := by omega
        subst this
        rw [← tr_nw_eq e]
        unfold tr_rx
        rw [if_pos rfl]
        split <;> omega
  refine ⟨fun g h f => f.elim, fun r hr hs => ?_⟩
  rcases hs with hs | hs
  · have e : tr_ps lf cf rc t nr (cf r) = t (cf r) := tr_ps_hi hl hs nr (Nat.le_refl _)
    rw [tr_nw_eq e]
    exact key nr (Nat.le_refl _) r hr hs
  · exact hs.elim
theorem tr_B (hl : ∀ r, r < nr → lf r < 4) {t : Nat → Nat} {S : Nat → Prop} {m : Nat} (ht : ∀ g, g < 4 → t g ≤ 1000000) (hm : m < 4) (hS : ¬ S m) (hmin : ∀ h, h < 4 → ¬ S h → t m ≤ t h) (C : tr_C lf cf rc nr t S) :
    tr_C lf cf rc nr (tr_ps lf cf rc t nr) (fun g => S g ∨ g = m) := by
  have key : ∀ k, k ≤ nr → (∀ g, (S g ∨ g = m) → tr_ps lf cf rc t k g = t g) ∧ (∀ h, h < 4 → ¬ S h → t m ≤ tr_ps lf cf rc t k h) ∧
      (∀ r, r < nr → (4 ≤ cf r ∨ S (cf r)) → tr_ps lf cf rc t k (lf r) ≤ tr_nw cf rc t r) ∧ (∀ r, r < k → cf r = m → tr_ps lf cf rc t k (lf r) ≤ tr_nw cf rc t r) := by
    intro k
    induction k with
    | zero => exact fun _ => ⟨fun _ _ => rfl, hmin, C.2, fun r hr => by omega⟩
    | succ k ih =>
      intro hk
      obtain ⟨a, b, d, e⟩ := ih (by omega)
      have hlk := hl k (by omega)
      show (∀ g, (S g ∨ g = m) → tr_rx lf cf rc (tr_ps lf cf rc t k) k g = t g) ∧ (∀ h, h < 4 → ¬ S h → t m ≤ tr_rx lf cf rc (tr_ps lf cf rc t k) k h) ∧
        (∀ r, r < nr → (4 ≤ cf r ∨ S (cf r)) → tr_rx lf cf rc (tr_ps lf cf rc t k) k (lf r) ≤ tr_nw cf rc t r) ∧ (∀ r, r < k + 1 → cf r = m → tr_rx lf cf rc (tr_ps lf cf rc t k) k (lf r) ≤ tr_nw cf rc t r)
      rcases Nat.lt_or_ge (tr_nw cf rc (tr_ps lf cf rc t k) k) (tr_ps lf cf rc t k (lf k)) with hn | hn
      · -- changed
        have hsrc : ¬ (4 ≤ cf k ∨ S (cf k)) := by
          intro hs
          have z := d k (by omega) hs
          have e1 : tr_ps lf cf rc t k (cf k) = t (cf k) := by
            rcases hs with hs | hs
            · exact tr_ps_hi hl hs k (by omega)
            · exact a _ (Or.inl hs)
          rw [tr_nw_eq e1] at hn
          omega
        have hc4 : cf k < 4 := Nat.lt_of_not_le fun z => hsrc (Or.inl z)
        have hcS : ¬ S (cf k) := fun z => hsrc (Or.inr z)
        have h1 : t m ≤ tr_ps lf cf rc t k (cf k) := b _ hc4 hcS
        have h2 : tr_ps lf cf rc t k (cf k) ≤ tr_nw cf rc (tr_ps lf cf rc t k) k := tr_nw_ge (Nat.le_trans (tr_ps_le k) (ht _ hc4))
        have hlS : ¬ (S (lf k) ∨ lf k = m) := by
          intro hs
          have z := a _ hs
          rcases hs with hs | hs
          · have := C.1 _ m hs hm hS
            omega
          · rw [hs] at z hn; omega
        refine ⟨fun g hg => ?_, fun h hh hs => ?_, fun r hr hs => Nat.le_trans tr_rx_le (d r hr hs), fun r hr hs => ?_⟩
        · have hne : g ≠ lf k := fun z => hlS (by rw [← z]; exact hg)
          rw [tr_rx_ne hne]
          exact a g hg
        · by_cases z : h = lf k
          · rw [z, tr_rx_lt hn]; omega
          · rw [tr_rx_ne z]; exact b h hh hs
        · rcases Nat.lt_or_ge r k with q | q
          · exact Nat.le_trans tr_rx_le (e r q hs)
          · have : r = k := by omega
            subst this
            rw [tr_rx_lt hn, tr_nw_eq (a (cf r) (Or.inr hs))]
            exact Nat.le_refl _
      · rw [tr_rx_id hn]
        refine ⟨a, b, d, fun r hr hs => ?_⟩
        rcases Nat.lt_or_ge r k with q | q
        · exact e r q hs
        · have : r = k := by omega
          subst this
          rw [tr_nw_eq (a (cf r) (Or.inr hs))] at hn
          exact hn
  obtain ⟨a, b, d, e⟩ := key nr (Nat.le_refl _)
  refine ⟨fun g h hg hh hn => ?_, fun r hr hs => ?_⟩
  · rw [a g hg]
    have h1 : ¬ S h := fun z => hn (Or.inl z)
    have h2 := b h hh h1
    rcases hg with hg | hg
    · have := C.1 g m hg hm hS
      omega
    · rw [hg]; exact h2
  · have e1 : tr_ps lf cf rc t nr (cf r) = t (cf r) := by
      rcases hs with hs | hs
      · exact tr_ps_hi hl hs nr (Nat.le_refl _)
      · exact a _ hs
    rw [tr_nw_eq e1]
    rcases hs with hs | hs | hs
    · exact d r hr (Or.inl hs)
    · exact d r hr (Or.inr hs)
    · exact e r hr hs
theorem tr_min (t : Nat → Nat) (S : Nat → Prop) (hex : ∃ h, h < 4 ∧ ¬ S h) : ∃ m, m < 4 ∧ ¬ S m ∧ ∀ h, h < 4 → ¬ S h → t m ≤ t h := by
  obtain ⟨h0, h1, h2⟩ := hex
  obtain ⟨v, ⟨m, a, b, e⟩, hv⟩ := pk_least (fun v => ∃ h, h < 4 ∧ ¬ S h ∧ t h = v) ⟨t h0, h0, h1, h2, rfl⟩
  refine ⟨m, a, b, fun h p q => ?_⟩
  rcases Nat.lt_or_ge (t h) (t m) with z | z
  · exact absurd ⟨h, p, q, rfl⟩ (hv (t h) (by omega))
  · exact z
theorem tr_rd_G {t : Nat → Nat} (ht : ∀ g, g < 4 → t g ≤ 1000000) (k : Nat) : ∀ g, g < 4 → tr_rd lf cf rc nr t k g ≤ 1000000 := fun g hg => Nat.le_trans (tr_rd_le k) (ht g hg)
theorem tr_conv (hl : ∀ r, r < nr → lf r < 4) {t : Nat → Nat} (ht : ∀ g, g < 4 → t g ≤ 1000000) : ∀ r, r < nr → tr_rd lf cf rc nr t 4 (lf r) ≤ tr_nw cf rc (tr_rd lf cf rc nr t 4) r := by
  have c1 : tr_C lf cf rc nr (tr_rd lf cf rc nr t 1) (fun _ => False) := tr_A hl
  obtain ⟨m1, a1, b1, d1⟩ := tr_min (tr_rd lf cf rc nr t 1) (fun _ => False) ⟨0, by omega, id⟩
  have c2 : tr_C lf cf rc nr (tr_rd lf cf rc nr t 2) _ := tr_B hl (tr_rd_G ht 1) a1 b1 d1 c1
  obtain ⟨m2, a2, b2, d2⟩ := tr_min (tr_rd lf cf rc nr t 2) (fun g => False ∨ g = m1) (Classical.byContradiction fun z => by
    have h0 : (0 : Nat) = m1 := Classical.byContradiction fun q => z ⟨0, by omega, fun y => y.elim id q⟩
    have h1 : (1 : Nat) = m1 := Classical.byContradiction fun q => z ⟨1, by omega, fun y => y.elim id q⟩
    omega)
  have c3 : tr_C lf cf rc nr (tr_rd lf cf rc nr t 3) _ := tr_B hl (tr_rd_G ht 2) a2 b2 d2 c2
  obtain ⟨m3, a3, b3, d3⟩ := tr_min (tr_rd lf cf rc nr t 3) (fun g => (False ∨ g = m1) ∨ g = m2) (Classical.byContradiction fun z => by
    have h0 : (0 : Nat) = m1 ∨ (0 : Nat) = m2 := Classical.byContradiction fun q => z ⟨0, by omega, fun y => q (y.elim (fun w => Or.inl (w.elim (fun f => f.elim) id)) Or.inr)⟩
    have h1 : (1 : Nat) = m1 ∨ (1 : Nat) = m2 := Classical.byContradiction fun q => z ⟨1, by omega, fun y => q (y.elim (fun w => Or.inl (w.elim (fun f => f.elim) id)) Or.inr)⟩
    have h2 : (2 : Nat) = m1 ∨ (2 : Nat) = m2 := Classical.byContradiction fun q => z ⟨2, by omega, fun y => q (y.elim (fun w => Or.inl (w.elim (fun f => f.elim) id)) Or.inr)⟩
    omega)
  have c4 : tr_C lf cf rc nr (tr_rd lf cf rc nr t 4) _ := tr_B hl (tr_rd_G ht 3) a3 b3 d3 c3
  intro r hr
  by_cases hs : 4 ≤ cf r ∨ (((False ∨ cf r = m1) ∨ cf r = m2) ∨ cf r = m3)
  · exact c4.2 r hr hs
  · have hc : cf r < 4 := Nat.lt_of_not_le fun z => hs (Or.inl z)
    have hcs : ¬ (((False ∨ cf r = m1) ∨ cf r = m2) ∨ cf r = m3) := fun z => hs (Or.inr z)
    have hge := tr_nw_ge (cf := cf) (rc := rc) (t := tr_rd lf cf rc nr t 4) (r := r) (tr_rd_G ht 4 _ hc)
    by_cases hls : (((False ∨ lf r = m1) ∨ lf r = m2) ∨ lf r = m3)
    · exact Nat.le_trans (c4.1 _ _ hls hc hcs) hge
    · have hl4 := hl r hr
      have : lf r = cf r := by
        have n1 : ¬ m2 = m1 := fun z => b2 (Or.inr z)
        have n2 : ¬ m3 = m1 := fun z => b3 (Or.inl (Or.inr z))
        have n3 : ¬ m3 = m2 := fun z => b3 (Or.inr z)
        have p1 : ¬ cf r = m1 := fun z => hcs (Or.inl (Or.inl (Or.inr z)))
        have p2 : ¬ cf r = m2 := fun z => hcs (Or.inl (Or.inr z))
        have p3 : ¬ cf r = m3 := fun z => hcs (Or.inr z)
        have q1 : ¬ lf r = m1 := fun z => hls (Or.inl (Or.inl (Or.inr z)))
        have q2 : ¬ lf r = m2 := fun z => hls (Or.inl (Or.inr z))
        have q3 : ¬ lf r = m3 := fun z => hls (Or.inr z)
        omega
      rw [this]
      exact hge
theorem tr_fix (hl : ∀ r, r < nr → lf r < 4) {t : Nat → Nat} (ht : ∀ g, g < 4 → t g ≤ 1000000) : ∀ k, k ≤ nr → tr_ps lf cf rc (tr_rd lf cf rc nr t 4) k = tr_rd lf cf rc nr t 4
  | 0, _ => rfl
  | k + 1, h => by
    show tr_rx lf cf rc (tr_ps lf cf rc (tr_rd lf cf rc nr t 4) k) k = _
    rw [tr_fix hl ht k (by omega)]
    exact tr_rx_id (tr_conv hl ht k (by omega))
theorem tr_5 (hl : ∀ r, r < nr → lf r < 4) {t : Nat → Nat} (ht : ∀ g, g < 4 → t g ≤ 1000000) : tr_rd lf cf rc nr t 5 = tr_rd lf cf rc nr t 4 := tr_fix hl ht nr (Nat.le_refl _)
/-- a finite goal has a rule that pays for it -/
def tr_Q (lf cf rc : Nat → Nat) (nr : Nat) (t : Nat → Nat) : Prop := ∀ g, g < 4 → t g < 1000000 → ∃ r, r < nr ∧ lf r = g ∧ t (cf r) < 1000000 ∧ t (cf r) + rc r ≤ t g
theorem tr_Q_rx {t : Nat → Nat} {k : Nat} (hk : k < nr) (h : tr_Q lf cf rc nr t) (ht : ∀ g, g < 4 → t g ≤ 1000000) : tr_Q lf cf rc nr (tr_rx lf cf rc t k) := by
  rcases Nat.lt_or_ge (tr_nw cf rc t k) (t (lf k)) with hn | hn
  · intro g hg hf
    by_cases z : g = lf k
    · subst z
      have hs : t (cf k) < 1000000 := by
        rcases Nat.lt_or_ge (t (cf k)) 1000000 with q | q
        · exact q
        · unfold tr_nw at hn
          rw [if_neg (by omega)] at hn
          have := ht _ hg
          omega
      have le := tr_rx_le (lf := lf) (cf := cf) (rc := rc) (t := t) (r := k) (e := cf k)
      refine ⟨k, hk, rfl, by omega, ?_⟩
      rw [tr_rx_lt hn]
      unfold tr_nw
      rw [if_pos hs]
      omega
    · rw [tr_rx_ne z] at hf
      obtain ⟨r, a, b, c, d⟩ := h g hg hf
      have le := tr_rx_le (lf := lf) (cf := cf) (rc := rc) (t := t) (r := k) (e := cf r)
      exact ⟨r, a, b, by omega, by rw [tr_rx_ne z]; omega⟩
  · rw [tr_rx_id hn]; exact h
theorem tr_Q_ps {t : Nat → Nat} (h : tr_Q lf cf rc nr t) (ht : ∀ g, g < 4 → t g ≤ 1000000) : ∀ k, k ≤ nr → tr_Q lf cf rc nr (tr_ps lf cf rc t k)
  | 0, _ => h
  | k + 1, hk => tr_Q_rx (by omega) (tr_Q_ps h ht k (by omega)) (fun g hg => Nat.le_trans (tr_ps_le k) (ht g hg))
theorem tr_Q_rd {t : Nat → Nat} (h : tr_Q lf cf rc nr t) (ht : ∀ g, g < 4 → t g ≤ 1000000) : ∀ k, tr_Q lf cf rc nr (tr_rd lf cf rc nr t k)
  | 0 => h
  | k + 1 => tr_Q_ps (tr_Q_rd h ht k) (tr_rd_G ht k) nr (Nat.le_refl _)
theorem tr_best (hl : ∀ r, r < nr → lf r < 4) {t : Nat → Nat} (ht : ∀ g, g < 4 → t g = 1000000) {g : Nat} (hg : g < 4) (hf : tr_rd lf cf rc nr t 5 g < 1000000) :
    ∃ r, r < nr ∧ lf r = g ∧ tr_rd lf cf rc nr t 5 (cf r) < 1000000 ∧ tr_rd lf cf rc nr t 5 (cf r) + rc r = tr_rd lf cf rc nr t 5 g := by
  have ht' : ∀ g, g < 4 → t g ≤ 1000000 := fun g hg => by rw [ht g hg]; exact Nat.le_refl _
  have q : tr_Q lf cf rc nr t := fun g hg hf => by rw [ht g hg] at hf; omega
  obtain ⟨r, a, b, c, d⟩ := tr_Q_rd (lf := lf) (cf := cf) (rc := rc) (nr := nr) q ht' 5 g hg hf
  refine ⟨r, a, b, c, ?_⟩
  have z := tr_conv hl ht' r a (cf := cf) (rc := rc)
  rw [← tr_5 hl ht', b] at z
  unfold tr_nw at z
  rw [if_pos c] at z
  omega
end
end
section
/-! forests in reverse Polish form; the rules' picture -/
def tc_ar (m : Nat) : Nat := if m < 10 then m / 2 else 0
def tc_ht (m : Nat → Nat) : Nat → Nat
  | 0 => 0
  | k + 1 => tc_ht m k + 1 - tc_ar (m k)
def tc_bg (rt : Nat → Nat) : Nat → Nat
  | 0 => 0
  | j + 1 => rt j + 1
def tc_sq (s : Nat → Nat) (a k : Nat) : Nat := 1 + (if a = 0 then 0 else if a = 1 then s (k - 1) else s (k - 1) + s (k - 1 - s (k - 1)))
def tc_pt (m s : Nat → Nat) (n : Nat) : Prop := ∀ k, k < n → (m k < 6 ∨ (10 ≤ m k ∧ m k < 14)) ∧ tc_ar (m k) ≤ tc_ht m k ∧ s k = tc_sq s (tc_ar (m k)) k
def tc_fo (s : Nat → Nat) (k h : Nat) (rt : Nat → Nat) : Prop :=
  (∀ j, j < h → 1 ≤ s (rt j) ∧ rt j + 1 = tc_bg rt j + s (rt j)) ∧ tc_bg rt h = k ∧ ∀ j, j < h → ∀ n, rt j < n → n < k → rt j + s n ≤ n
def tc_up (rt : Nat → Nat) (i k : Nat) : Nat → Nat := fun j => if j = i then k else rt j
theorem tc_ar2 {m : Nat} (h : m < 6 ∨ (10 ≤ m ∧ m < 14)) : tc_ar m ≤ 2 := by
  unfold tc_ar
  split <;> omega
theorem tc_bg_up {rt : Nat → Nat} {i k : Nat} : ∀ j, j ≤ i → tc_bg (tc_up rt i k) j = tc_bg rt j
  | 0, _ => rfl
  | j + 1, h => by
    show tc_up rt i k j + 1 = rt j + 1
    unfold tc_up
    rw [if_neg (by omega)]
theorem tc_fo_mono {s rt : Nat → Nat} {k h : Nat} (F : tc_fo s k h rt) : ∀ j, j ≤ h → ∀ i, i < j → rt i + 1 ≤ tc_bg rt j
  | 0, _, i, hi => by omega
  | j + 1, hj, i, hi => by
    show rt i + 1 ≤ rt j + 1
    rcases Nat.lt_or_ge i j with z | z
    · have a := tc_fo_mono F j (by omega) i z
      have b := F.1 j (by omega)
      omega
    · have : i = j := by omega
      rw [this]; exact Nat.le_refl _
theorem tc_fo_beg {s rt : Nat → Nat} {k h a : Nat} (F : tc_fo s k h rt) (ha : a ≤ h) (h2 : a ≤ 2) (hs : s k = tc_sq s a k) : 1 ≤ s k ∧ k + 1 = tc_bg rt (h - a) + s k := by
  obtain ⟨F1, F2, F3⟩ := F
  unfold tc_sq at hs
  rcases Nat.lt_or_ge a 1 with z | z
  · have e : a = 0 := by omega
    subst e
    rw [if_pos rfl] at hs
    rw [Nat.sub_zero, F2]
    omega
  · rcases Nat.lt_or_ge a 2 with y | y
    · have e : a = 1 := by omega
      subst e
      rw [if_neg (by decide), if_pos rfl] at hs
      obtain ⟨h', rfl⟩ : ∃ h', h = h' + 1 := ⟨h - 1, by omega⟩
      have e2 : rt h' + 1 = k := F2
      have e1 : k - 1 = rt h' := by omega
      have f := F1 h' (by omega)
      rw [e1] at hs
      rw [show h' + 1 - 1 = h' from rfl]
      omega
    · have e : a = 2 := by omega
      subst e
      rw [if_neg (by decide), if_neg (by decide)] at hs
      obtain ⟨h', rfl⟩ : ∃ h', h = h' + 2 := ⟨h - 2, by omega⟩
      have e2 : rt (h' + 1) + 1 = k := F2
      have e1 : k - 1 = rt (h' + 1) := by omega
      have f := F1 (h' + 1) (by omega)
      have f' := F1 h' (by omega)
      have e3 : rt (h' + 1) + 1 = rt h' + 1 + s (rt (h' + 1)) := f.2
      rw [e1] at hs
      have e4 : rt (h' + 1) - s (rt (h' + 1)) = rt h' := by omega
      rw [e4] at hs
      rw [show h' + 2 - 2 = h' from rfl]
      omega
theorem tc_fo_step {s rt : Nat → Nat} {k h a : Nat} (F : tc_fo s k h rt) (ha : a ≤ h) (h2 : a ≤ 2) (hs : s k = tc_sq s a k) : tc_fo s (k + 1) (h + 1 - a) (tc_up rt (h - a) k) := by
  have B := tc_fo_beg F ha h2 hs
  have M := tc_fo_mono F (h - a) (by omega)
  obtain ⟨F1, F2, F3⟩ := F
  have e : h + 1 - a = (h - a) + 1 := by omega
  have ek : tc_up rt (h - a) k (h - a) = k := if_pos rfl
  have en : ∀ j, j < h - a → tc_up rt (h - a) k j = rt j := fun j hj => if_neg (by omega)
  rw [e]
  refine ⟨fun j hj => ?_, ?_, fun j hj n h1 h3 => ?_⟩
  · rcases Nat.lt_or_ge j (h - a) with z | z
    · rw [tc_bg_up j (by omega), en j z]
      exact F1 j (by omega)
    · have : j = h - a := by omega
      subst this
      rw [tc_bg_up _ (Nat.le_refl _), ek]
      exact B
  · show tc_up rt (h - a) k (h - a) + 1 = k + 1
    rw [ek]
  · rcases Nat.lt_or_ge j (h - a) with z | z
    · rw [en j z] at h1 ⊢
      rcases Nat.lt_or_ge n k with y | y
      · exact F3 j (by omega) n h1 y
      · have : n = k := by omega
        subst this
        have := M j z
        omega
    · have : j = h - a := by omega
      subst this
      rw [ek] at h1
      omega
theorem tc_fo_0 {s rt : Nat → Nat} : tc_fo s 0 0 rt := ⟨fun j hj => by omega, rfl, fun j hj => by omega⟩
theorem tc_fo_ex {m s : Nat → Nat} {n : Nat} (P : tc_pt m s n) : ∀ k, k ≤ n → ∃ rt, tc_fo s k (tc_ht m k) rt
  | 0, _ => ⟨fun _ => 0, tc_fo_0⟩
  | k + 1, h => by
    obtain ⟨rt, F⟩ := tc_fo_ex P k (by omega)
    obtain ⟨p1, p2, p3⟩ := P k (by omega)
    exact ⟨_, tc_fo_step F p2 (tc_ar2 p1) p3⟩
theorem tc_ht_le (m : Nat → Nat) : ∀ k, tc_ht m k ≤ k
  | 0 => Nat.le_refl _
  | k + 1 => by have := tc_ht_le m k; show tc_ht m k + 1 - tc_ar (m k) ≤ k + 1; omega
theorem tc_pt_loc {m s : Nat → Nat} {n : Nat} (P : tc_pt m s n) {k : Nat} (hk : k < n) :
    1 ≤ s k ∧ s k ≤ k + 1 ∧ (1 ≤ tc_ar (m k) → 1 ≤ k) ∧ (tc_ar (m k) = 2 → s (k - 1) + 1 ≤ k) := by
  obtain ⟨rt, F⟩ := tc_fo_ex P k (by omega)
  obtain ⟨p1, p2, p3⟩ := P k hk
  have B := tc_fo_beg F p2 (tc_ar2 p1) p3
  refine ⟨B.1, by omega, fun ha => ?_, fun ha => ?_⟩
  · have := tc_ht_le m k
    omega
  · obtain ⟨F1, F2, F3⟩ := F
    obtain ⟨h', e⟩ : ∃ h', tc_ht m k = h' + 2 := ⟨tc_ht m k - 2, by omega⟩
    rw [e] at F1 F2
    have e2 : rt (h' + 1) + 1 = k := F2
    have f : rt (h' + 1) + 1 = rt h' + 1 + s (rt (h' + 1)) := (F1 (h' + 1) (by omega)).2
    have e1 : k - 1 = rt (h' + 1) := by omega
    rw [e1]
    omega
theorem tc_ht_ext {m m' : Nat → Nat} : ∀ k, (∀ j, j < k → m' j = m j) → tc_ht m' k = tc_ht m k
  | 0, _ => rfl
  | k + 1, h => by
    show tc_ht m' k + 1 - tc_ar (m' k) = tc_ht m k + 1 - tc_ar (m k)
    rw [tc_ht_ext k (fun j hj => h j (by omega)), h k (by omega)]
theorem tc_pt_ext {m s m' s' : Nat → Nat} {n : Nat} (P : tc_pt m s n) (hm : ∀ j, j < n → m' j = m j) (hs : ∀ j, j < n → s' j = s j) : tc_pt m' s' n := by
  intro k hk
  obtain ⟨p1, p2, p3⟩ := P k hk
  obtain ⟨l1, l2, l3, l4⟩ := tc_pt_loc P hk
  rw [hm k hk, hs k hk, tc_ht_ext k (fun j hj => hm j (by omega))]
  refine ⟨p1, p2, ?_⟩
  rw [p3]
  unfold tc_sq
  by_cases z : tc_ar (m k) = 0
  · rw [if_pos z, if_pos z]
  · rw [if_neg z, if_neg z]
    have h1 := l3 (by omega)
    by_cases y : tc_ar (m k) = 1
    · rw [if_pos y, if_pos y, hs _ (by omega)]
    · rw [if_neg y, if_neg y]
      have := tc_ar2 p1
      have h2 := l4 (by omega)
      rw [hs (k - 1) (by omega), hs (k - 1 - s (k - 1)) (by omega)]
theorem tc_fo_ext {s s' rt : Nat → Nat} {k h : Nat} (F : tc_fo s k h rt) (hs : ∀ j, j < k → s' j = s j) : tc_fo s' k h rt := by
  have M := tc_fo_mono F h (Nat.le_refl _)
  obtain ⟨F1, F2, F3⟩ := F
  refine ⟨fun j hj => ?_, F2, fun j hj n h1 h2 => ?_⟩
  · rw [hs (rt j) (by have := M j hj; omega)]
    exact F1 j hj
  · rw [hs n h2]
    exact F3 j hj n h1 h2
/-! the context: rules, lefts, costs, lengths, marks, sizes -/
abbrev tc_C : Type := Nat × (Nat → Nat) × (Nat → Nat) × (Nat → Nat) × (Nat → Nat) × (Nat → Nat)
def tc_nr (c : tc_C) : Nat := c.1
def tc_lf (c : tc_C) : Nat → Nat := c.2.1
def tc_rc (c : tc_C) : Nat → Nat := c.2.2.1
def tc_rn (c : tc_C) : Nat → Nat := c.2.2.2.1
def tc_mk (c : tc_C) : Nat → Nat := c.2.2.2.2.1
def tc_sz (c : tc_C) : Nat → Nat := c.2.2.2.2.2
def tc_wr (c : tc_C) (r : Nat) : Prop := tc_lf c r < 4 ∧ tc_rc c r ≤ 9 ∧ 1 ≤ tc_rn c r ∧ tc_rn c r ≤ 7 ∧
  tc_pt (fun k => tc_mk c (7 * r + k)) (fun k => tc_sz c (7 * r + k)) (tc_rn c r) ∧ tc_ht (fun k => tc_mk c (7 * r + k)) (tc_rn c r) = 1 ∧
  (tc_rc c r = 0 → tc_mk c (7 * r + tc_rn c r - 1) < 10)
def tc_wf (c : tc_C) : Prop := tc_nr c ≤ 10 ∧ ∀ r, r < tc_nr c → tc_wr c r
def tc_us (c : tc_C) (p : Nat) : Prop := p / 7 < tc_nr c ∧ p % 7 < tc_rn c (p / 7)
def tc_op (c : tc_C) (p : Nat) : Prop := tc_us c p ∧ tc_mk c p < 10
noncomputable def tc_b (P : Prop) : Nat := @ite Nat P (Classical.propDecidable P) 1 0
theorem tc_b_t {P : Prop} (h : P) : tc_b P = 1 := by unfold tc_b; rw [if_pos h]
theorem tc_b_f {P : Prop} (h : ¬ P) : tc_b P = 0 := by unfold tc_b; rw [if_neg h]
noncomputable def tc_cn (c : tc_C) : Nat → Nat
  | 0 => 0
  | p + 1 => tc_cn c p + tc_b (tc_op c p)
noncomputable def tc_en (c : tc_C) (p : Nat) : Nat := if tc_mk c p < 10 then 4 + tc_cn c p else tc_mk c p - 10
noncomputable def tc_N (c : tc_C) : Nat := 4 + tc_cn c (7 * tc_nr c)
noncomputable def tc_if (c : tc_C) (e : Nat) : Nat → Nat
  | 0 => 0
  | k + 1 => @ite Nat (tc_op c k ∧ 4 + tc_cn c k = e) (Classical.propDecidable _) k (tc_if c e k)
noncomputable def tc_iv (c : tc_C) (e : Nat) : Nat := tc_if c e 70
def tc_fp (c : tc_C) (p : Nat) : Nat := if tc_mk c p < 4 then p - 1 else p - 1 - tc_sz c (p - 1)
noncomputable def tc_cf (c : tc_C) (r : Nat) : Nat := tc_en c (7 * r + tc_rn c r - 1)
section
variable {c : tc_C}
theorem tc_us_of {r k : Nat} (hr : r < tc_nr c) (hk : k < tc_rn c r) (W : tc_wf c) : tc_us c (7 * r + k) := by
  have h7 := (W.2 r hr).2.2.2.1
  have e1 : (7 * r + k) / 7 = r := by omega
  have e2 : (7 * r + k) % 7 = k := by omega
  unfold tc_us
  rw [e1, e2]
  exact ⟨hr, hk⟩
theorem tc_us_lt (W : tc_wf c) {p : Nat} (h : tc_us c p) : p < 7 * tc_nr c ∧ p < 70 := by
  have := h.1
  have := W.1
  omega
theorem tc_loc (W : tc_wf c) {p : Nat} (h : tc_us c p) :
    (tc_mk c p < 6 ∨ (10 ≤ tc_mk c p ∧ tc_mk c p < 14)) ∧ 1 ≤ tc_sz c p ∧ tc_sz c p ≤ 7 ∧
    (2 ≤ tc_mk c p → tc_mk c p < 10 → 1 ≤ p ∧ tc_us c (p - 1)) ∧ (4 ≤ tc_mk c p → tc_mk c p < 10 → tc_sz c (p - 1) + 1 ≤ p ∧ tc_us c (p - 1 - tc_sz c (p - 1))) ∧
    (tc_mk c p < 2 ∨ 10 ≤ tc_mk c p → tc_sz c p = 1) ∧ (2 ≤ tc_mk c p → tc_mk c p < 4 → tc_sz c p = 1 + tc_sz c (p - 1)) ∧
    (4 ≤ tc_mk c p → tc_mk c p < 10 → tc_sz c p = 1 + tc_sz c (p - 1) + tc_sz c (p - 1 - tc_sz c (p - 1))) := by
  obtain ⟨r, k, hr, hk, e⟩ : ∃ r k, r < tc_nr c ∧ k < tc_rn c r ∧ p = 7 * r + k := ⟨p / 7, p % 7, h.1, h.2, by omega⟩
  obtain ⟨w1, w2, w3, w4, w5, w6, w7⟩ := W.2 r hr
  obtain ⟨p1, p2, p3⟩ := w5 k hk
  obtain ⟨l1, l2, l3, l4⟩ := tc_pt_loc w5 hk
  dsimp only at p1 p2 p3 l1 l2 l3 l4
  rw [← e] at p1 p2 p3 l1 l2 l3 l4
  have a1 : 2 ≤ tc_mk c p → tc_mk c p < 4 → tc_ar (tc_mk c p) = 1 := fun x y => by unfold tc_ar; rw [if_pos (by omega)]; omega
  have a2 : 4 ≤ tc_mk c p → tc_mk c p < 10 → tc_ar (tc_mk c p) = 2 := fun x y => by unfold tc_ar; rw [if_pos (by omega)]; omega
  have a0 : tc_mk c p < 2 ∨ 10 ≤ tc_mk c p → tc_ar (tc_mk c p) = 0 := fun x => by unfold tc_ar; split <;> omega
  have q1 : 2 ≤ tc_mk c p → tc_mk c p < 10 → 1 ≤ k := fun x y => l3 (by
    rcases Nat.lt_or_ge (tc_mk c p) 4 with z | z
    · rw [a1 x z]; exact Nat.le_refl _
    · rw [a2 z y]; decide)
  have f1 : 1 ≤ k → 7 * r + (k - 1) = p - 1 := fun _ => by omega
  refine ⟨p1, l1, by omega, fun x y => ?_, fun x y => ?_, fun x => ?_, fun x y => ?_, fun x y => ?_⟩
  · have := q1 x y
    refine ⟨by omega, ?_⟩
    rw [← f1 this]
    exact tc_us_of hr (by omega) W
  · have h1 := q1 (by omega) y
    have h2 := l4 (a2 x y)
    rw [f1 h1] at h2
    refine ⟨by omega, ?_⟩
    rw [show p - 1 - tc_sz c (p - 1) = 7 * r + (k - 1 - tc_sz c (p - 1)) by omega]
    exact tc_us_of hr (by omega) W
  · rw [p3, a0 x]; rfl
  · have h1 := q1 x (by omega)
    rw [p3, a1 x y]
    unfold tc_sq
    rw [if_neg (by decide), if_pos rfl]
    dsimp only
    rw [f1 h1]
  · have h1 := q1 (by omega) y
    have h2 := l4 (a2 x y)
    rw [f1 h1] at h2
    rw [p3, a2 x y]
    unfold tc_sq
    rw [if_neg (by decide), if_neg (by decide)]
    dsimp only
    rw [f1 h1, show 7 * r + (k - 1 - tc_sz c (p - 1)) = p - 1 - tc_sz c (p - 1) by omega]
    omega
theorem tc_cn_mono {p q : Nat} (h : p ≤ q) : tc_cn c p ≤ tc_cn c q := by
  induction h with
  | refl => exact Nat.le_refl _
  | step _ ih => exact Nat.le_trans ih (Nat.le_add_right _ _)
theorem tc_cn_s {p : Nat} (h : tc_op c p) : tc_cn c (p + 1) = tc_cn c p + 1 := by
  show tc_cn c p + tc_b (tc_op c p) = _
  rw [tc_b_t h]
theorem tc_cn_n {p : Nat} (h : ¬ tc_op c p) : tc_cn c (p + 1) = tc_cn c p := by
  show tc_cn c p + tc_b (tc_op c p) = _
  rw [tc_b_f h]; rfl
theorem tc_cn_lt {p q : Nat} (h : p < q) (hp : tc_op c p) : tc_cn c p < tc_cn c q := by
  have a := tc_cn_mono (c := c) (p := p + 1) (q := q) h
  rw [tc_cn_s hp] at a
  omega
theorem tc_cn_le : ∀ p, tc_cn c p ≤ p
  | 0 => Nat.le_refl _
  | p + 1 => by
    have := tc_cn_le p
    by_cases h : tc_op c p
    · rw [tc_cn_s h]; omega
    · rw [tc_cn_n h]; omega
theorem tc_N_le (W : tc_wf c) : 4 ≤ tc_N c ∧ tc_N c ≤ 74 := by
  have := tc_cn_le (c := c) (7 * tc_nr c)
  have := W.1
  unfold tc_N
  omega
theorem tc_en_op {p : Nat} (h : tc_op c p) : tc_en c p = 4 + tc_cn c p := if_pos h.2
theorem tc_en_go {p : Nat} (h : ¬ tc_mk c p < 10) : tc_en c p = tc_mk c p - 10 := if_neg h
theorem tc_en_lt (W : tc_wf c) {p : Nat} (h : tc_us c p) : tc_en c p < tc_N c := by
  have := tc_N_le W
  by_cases z : tc_mk c p < 10
  · rw [tc_en_op ⟨h, z⟩]
    have := tc_cn_lt (c := c) (tc_us_lt W h).1 ⟨h, z⟩
    unfold tc_N
    omega
  · rw [tc_en_go z]
    have := (tc_loc W h).1
    omega
theorem tc_en_go4 (W : tc_wf c) {p : Nat} (h : tc_us c p) (z : ¬ tc_mk c p < 10) : tc_en c p < 4 := by
  rw [tc_en_go z]
  have := (tc_loc W h).1
  omega
theorem tc_en_op4 {p : Nat} (h : tc_op c p) : 4 ≤ tc_en c p := by rw [tc_en_op h]; omega
theorem tc_op_inj {p q : Nat} (hp : tc_op c p) (hq : tc_op c q) (e : tc_cn c p = tc_cn c q) : p = q := by
  rcases Nat.lt_or_ge p q with z | z
  · have := tc_cn_lt z hp; omega
  · rcases Nat.lt_or_ge q p with y | y
    · have := tc_cn_lt y hq; omega
    · omega
theorem tc_if_eq {e p : Nat} (hp : tc_op c p) (he : 4 + tc_cn c p = e) : ∀ k, p < k → tc_if c e k = p
  | 0, h => by omega
  | k + 1, h => by
    unfold tc_if
    by_cases z : tc_op c k ∧ 4 + tc_cn c k = e
    · rw [if_pos z]
      exact tc_op_inj z.1 hp (by have := z.2; omega)
    · rw [if_neg z]
      have : p ≠ k := fun q => z (q ▸ ⟨hp, he⟩)
      exact tc_if_eq hp he k (by omega)
theorem tc_iv_en (W : tc_wf c) {p : Nat} (h : tc_op c p) : tc_iv c (tc_en c p) = p := tc_if_eq h (tc_en_op h).symm 70 (tc_us_lt W h.1).2
theorem tc_sur0 : ∀ k e, 4 ≤ e → e < 4 + tc_cn c k → ∃ p, p < k ∧ tc_op c p ∧ 4 + tc_cn c p = e
  | 0, e, h1, h2 => by have : tc_cn c 0 = 0 := rfl; omega
  | k + 1, e, h1, h2 => by
    by_cases z : tc_op c k
    · rw [tc_cn_s z] at h2
      rcases Nat.lt_or_ge e (4 + tc_cn c k) with y | y
      · obtain ⟨p, a, b, d⟩ := tc_sur0 k e h1 y
        exact ⟨p, by omega, b, d⟩
      · exact ⟨k, by omega, z, by omega⟩
    · rw [tc_cn_n z] at h2
      obtain ⟨p, a, b, d⟩ := tc_sur0 k e h1 h2
      exact ⟨p, by omega, b, d⟩
theorem tc_sur {e : Nat} (h1 : 4 ≤ e) (h2 : e < tc_N c) : ∃ p, tc_op c p ∧ tc_en c p = e := by
  obtain ⟨p, a, b, d⟩ := tc_sur0 _ e h1 h2
  exact ⟨p, b, by rw [tc_en_op b]; exact d⟩
theorem tc_us_rt (W : tc_wf c) {r : Nat} (hr : r < tc_nr c) : tc_us c (7 * r + tc_rn c r - 1) := by
  have h := W.2 r hr
  have := h.2.2.1
  rw [show 7 * r + tc_rn c r - 1 = 7 * r + (tc_rn c r - 1) by omega]
  exact tc_us_of hr (by omega) W
theorem tc_cf_lt (W : tc_wf c) {r : Nat} (hr : r < tc_nr c) : tc_cf c r < tc_N c := tc_en_lt W (tc_us_rt W hr)
/-! costs of a helper, of all entries -/
noncomputable def tc_ha (c : tc_C) (o : Nat) (wa : Nat → Nat) (p : Nat) : Nat := if 2 ≤ o then wa (tc_en c (tc_fp c p)) else 0
noncomputable def tc_hb (c : tc_C) (o : Nat) (wb : Nat → Nat) (p : Nat) : Nat := if 4 ≤ o then wb (tc_en c (p - 1)) else 0
def tc_sm (a b : Nat) : Nat := if 1000000 ≤ a then 1000000 else if b < 1000000 then a + b else 1000000
noncomputable def tc_hp (c : tc_C) (o : Nat) (wa wb : Nat → Nat) (p : Nat) : Nat := if tc_mk c p = o then tc_sm (tc_ha c o wa p) (tc_hb c o wb p) else 1000000
noncomputable def tc_t0 (c : tc_C) (o : Nat) (wa wb : Nat → Nat) (e : Nat) : Nat := if e < 4 then 1000000 else tc_hp c o wa wb (tc_iv c e)
noncomputable def tc_st (c : tc_C) (o : Nat) (wa wb : Nat → Nat) : Nat → Nat := tr_rd (tc_lf c) (tc_cf c) (tc_rc c) (tc_nr c) (tc_t0 c o wa wb) 5
def tc_cl (v : Nat) : Nat := if v < 1000000 then v else 1000000
theorem tc_cl_le (v : Nat) : tc_cl v ≤ 1000000 := by unfold tc_cl; split <;> omega
theorem tc_sm_le {a b : Nat} : tc_sm a b ≤ 2000000 := by
  unfold tc_sm
  split
  · omega
  · split <;> omega
theorem tc_t0_le (o : Nat) (wa wb : Nat → Nat) (e : Nat) : tc_t0 c o wa wb e ≤ 2000000 := by
  unfold tc_t0 tc_hp
  split
  · omega
  · split
    · exact tc_sm_le
    · omega
theorem tc_t0_g (o : Nat) (wa wb : Nat → Nat) {g : Nat} (h : g < 4) : tc_t0 c o wa wb g = 1000000 := if_pos h
theorem tc_t0_g' (o : Nat) (wa wb : Nat → Nat) : ∀ g, g < 4 → tc_t0 c o wa wb g ≤ 1000000 := fun g h => by rw [tc_t0_g o wa wb h]; exact Nat.le_refl _
theorem tc_t0_h (W : tc_wf c) (o : Nat) (wa wb : Nat → Nat) {p : Nat} (h : tc_op c p) : tc_t0 c o wa wb (tc_en c p) = tc_hp c o wa wb p := by
  unfold tc_t0
  rw [if_neg (by have := tc_en_op4 h; omega), tc_iv_en W h]
theorem tc_st_le (o : Nat) (wa wb : Nat → Nat) (e : Nat) : tc_st c o wa wb e ≤ 2000000 := Nat.le_trans (tr_rd_le 5) (tc_t0_le o wa wb e)
theorem tc_st_g (o : Nat) (wa wb : Nat → Nat) {g : Nat} (h : g < 4) : tc_st c o wa wb g ≤ 1000000 := tr_rd_G (tc_t0_g' o wa wb) 5 g h
theorem tc_st_h (W : tc_wf c) (o : Nat) (wa wb : Nat → Nat) {p : Nat} (h : tc_op c p) : tc_st c o wa wb (tc_en c p) = tc_hp c o wa wb p := by
  unfold tc_st
  rw [tr_rd_hi (fun r hr => (W.2 r hr).1) (tc_en_op4 h), tc_t0_h W o wa wb h]
end
end
section
/-! X: laying the rules out -/
def tc_cd (m : Nat) : Int32 := if m < 10 then nI m else (-1) - nI (m - 10)
theorem tc_cd_op {m : Nat} (h : m < 10) : tc_cd m = nI m := if_pos h
theorem tc_cd_go : ∀ m, m < 14 → 10 ≤ m → tc_cd m < 0 ∧ (-1) - tc_cd m = nI (m - 10) := by decide
theorem tc_clr {n : Nat} (f : Nat → Int32) (h : n < 2 ^ 31) : f (nI n).toNatClampNeg = f n := by rw [nI_clamp h]
theorem tc_upc {f : Nat → Int32} {n : Nat} {x y : Int32} (h : n < 2 ^ 31) (e : x = y) : upd f (nI n).toNatClampNeg x = upd f n y := by rw [nI_clamp h, e]
section
variable {f_drafted f_patternHeight f_rules f_nodes f_treeHeight f_isLaid f_entries f_stateCount f_isWhole f_tooMany f_trialLeast f_covered f_works f_fromStates f_whereFirst f_whereSecond : Int32} {a_draft a_patternBegin a_left a_ruleCost a_ruleSize a_rulePart a_operator a_firstPart a_secondPart a_stack a_treeBegin a_helperOperator a_helperFirst a_helperSecond a_chainFrom a_openParts a_stateCost a_leafState a_leafAdd a_oneState a_oneAdd a_twoState a_twoAdd a_trial a_nodeCost a_nodeWays a_cover a_workEntry a_workNode a_nodeState a_nodeBase : Nat → Int32}
theorem xs_arity {post : Int32 → Prop} {m : Nat} (hm : m < 2 ^ 31) (h : post (nI (m / 2))) : wpX_arity post (f_drafted, f_patternHeight, f_rules, f_nodes, f_treeHeight, f_isLaid, f_entries, f_stateCount, f_isWhole, f_tooMany, f_trialLeast, f_covered, f_works, f_fromStates, f_whereFirst, f_whereSecond, a_draft, a_patternBegin, a_left, a_ruleCost, a_ruleSize, a_rulePart, a_operator, a_firstPart, a_secondPart, a_stack, a_treeBegin, a_helperOperator, a_helperFirst, a_helperSecond, a_chainFrom, a_openParts, a_stateCost, a_leafState, a_leafAdd, a_oneState, a_oneAdd, a_twoState, a_twoAdd, a_trial, a_nodeCost, a_nodeWays, a_cover, a_workEntry, a_workNode, a_nodeState, a_nodeBase) (nI m) := by
  have e : nI m / 2 = nI (m / 2) := pk_div hm (by decide) (by decide)
  refine ⟨by decide, ?_⟩
  rw [e]
  exact h
theorem xl_92 {post : SX → Prop} (K : ∀ ts : Nat → Int32, (∀ j, j < 968 → ts j = -1) → post (f_drafted, f_patternHeight, f_rules, f_nodes, f_treeHeight, 1, f_entries, f_stateCount, f_isWhole, f_tooMany, f_trialLeast, f_covered, f_works, f_fromStates, f_whereFirst, f_whereSecond, a_draft, a_patternBegin, a_left, a_ruleCost, a_ruleSize, a_rulePart, a_operator, a_firstPart, a_secondPart, a_stack, a_treeBegin, a_helperOperator, a_helperFirst, a_helperSecond, a_chainFrom, a_openParts, a_stateCost, a_leafState, a_leafAdd, a_oneState, a_oneAdd, ts, a_twoAdd, a_trial, a_nodeCost, a_nodeWays, a_cover, a_workEntry, a_workNode, a_nodeState, a_nodeBase)) :
    ∀ d k, k + d = 968 → ∀ ts : Nat → Int32, (∀ j, j < k → ts j = -1) → ∀ n, d < n → wX_layOut_92 post f_drafted f_patternHeight f_rules f_nodes f_treeHeight f_isLaid f_entries f_stateCount f_isWhole f_tooMany f_trialLeast f_covered f_works f_fromStates f_whereFirst f_whereSecond n (nI k) a_draft a_patternBegin a_left a_ruleCost a_ruleSize a_rulePart a_operator a_firstPart a_secondPart a_stack a_treeBegin a_helperOperator a_helperFirst a_helperSecond a_chainFrom a_openParts a_stateCost a_leafState a_leafAdd a_oneState a_oneAdd ts a_twoAdd a_trial a_nodeCost a_nodeWays a_cover a_workEntry a_workNode a_nodeState a_nodeBase := by
  intro d
  induction d with
  | zero =>
    intro k hk ts h n hn
    obtain ⟨n, rfl⟩ : ∃ m, n = m + 1 := ⟨n - 1, by omega⟩
    exact pk_le 968 k (fun _ => K ts (fun j hj => h j (by omega))) (fun z => by omega)
  | succ d ih =>
    intro k hk ts h n hn
    obtain ⟨n, rfl⟩ : ∃ m, n = m + 1 := ⟨n - 1, by omega⟩
    refine pk_le 968 k (fun z => by omega) (fun _ => ⟨pk_in k 968 (by omega), nm_r (tc_upc (y := -1) (by omega) rfl) (nm_r (nI_1 k) ?_)⟩)
    refine ih (k + 1) (by omega) _ (fun j hj => ?_) n (by omega)
    by_cases z : j = k
    · rw [z]; exact pk_us
    · rw [pk_un z]; exact h j (by omega)
theorem xl_71 {post : SX → Prop} (K : ∀ os ts : Nat → Int32, (∀ j, j < 44 → os j = -1) → (∀ j, j < 968 → ts j = -1) → post (f_drafted, f_patternHeight, f_rules, f_nodes, f_treeHeight, 1, f_entries, f_stateCount, f_isWhole, f_tooMany, f_trialLeast, f_covered, f_works, f_fromStates, f_whereFirst, f_whereSecond, a_draft, a_patternBegin, a_left, a_ruleCost, a_ruleSize, a_rulePart, a_operator, a_firstPart, a_secondPart, a_stack, a_treeBegin, a_helperOperator, a_helperFirst, a_helperSecond, a_chainFrom, a_openParts, a_stateCost, a_leafState, a_leafAdd, os, a_oneAdd, ts, a_twoAdd, a_trial, a_nodeCost, a_nodeWays, a_cover, a_workEntry, a_workNode, a_nodeState, a_nodeBase)) :
    ∀ d k, k + d = 44 → ∀ os : Nat → Int32, (∀ j, j < k → os j = -1) → ∀ n, d < n → wX_layOut_71 post f_drafted f_patternHeight f_rules f_nodes f_treeHeight f_isLaid f_entries f_stateCount f_isWhole f_tooMany f_trialLeast f_covered f_works f_fromStates f_whereFirst f_whereSecond n (nI k) a_draft a_patternBegin a_left a_ruleCost a_ruleSize a_rulePart a_operator a_firstPart a_secondPart a_stack a_treeBegin a_helperOperator a_helperFirst a_helperSecond a_chainFrom a_openParts a_stateCost a_leafState a_leafAdd os a_oneAdd a_twoState a_twoAdd a_trial a_nodeCost a_nodeWays a_cover a_workEntry a_workNode a_nodeState a_nodeBase := by
  intro d
  induction d with
  | zero =>
    intro k hk os h n hn
    obtain ⟨n, rfl⟩ : ∃ m, n = m + 1 := ⟨n - 1, by omega⟩
    exact pk_le 44 k (fun _ => ⟨969, xl_92 (fun ts ht => K os ts (fun j hj => h j (by omega)) ht) 968 0 rfl a_twoState (fun j hj => by omega) 969 (by omega)⟩) (fun z => by omega)
  | succ d ih =>
    intro k hk os h n hn
    obtain ⟨n, rfl⟩ : ∃ m, n = m + 1 := ⟨n - 1, by omega⟩
    refine pk_le 44 k (fun z => by omega) (fun _ => ⟨pk_in k 44 (by omega), nm_r (tc_upc (y := -1) (by omega) rfl) (nm_r (nI_1 k) ?_)⟩)
    refine ih (k + 1) (by omega) _ (fun j hj => ?_) n (by omega)
    by_cases z : j = k
    · rw [z]; exact pk_us
    · rw [pk_un z]; exact h j (by omega)
theorem xl_51 {post : SX → Prop} (K : ∀ ls os ts : Nat → Int32, (∀ j, j < 2 → ls j = -1) → (∀ j, j < 44 → os j = -1) → (∀ j, j < 968 → ts j = -1) → post (f_drafted, f_patternHeight, f_rules, f_nodes, f_treeHeight, 1, f_entries, f_stateCount, f_isWhole, f_tooMany, f_trialLeast, f_covered, f_works, f_fromStates, f_whereFirst, f_whereSecond, a_draft, a_patternBegin, a_left, a_ruleCost, a_ruleSize, a_rulePart, a_operator, a_firstPart, a_secondPart, a_stack, a_treeBegin, a_helperOperator, a_helperFirst, a_helperSecond, a_chainFrom, a_openParts, a_stateCost, ls, a_leafAdd, os, a_oneAdd, ts, a_twoAdd, a_trial, a_nodeCost, a_nodeWays, a_cover, a_workEntry, a_workNode, a_nodeState, a_nodeBase)) :
    ∀ d k, k + d = 2 → ∀ ls : Nat → Int32, (∀ j, j < k → ls j = -1) → ∀ n, d < n → wX_layOut_51 post f_drafted f_patternHeight f_rules f_nodes f_treeHeight f_isLaid f_entries f_stateCount f_isWhole f_tooMany f_trialLeast f_covered f_works f_fromStates f_whereFirst f_whereSecond n (nI k) a_draft a_patternBegin a_left a_ruleCost a_ruleSize a_rulePart a_operator a_firstPart a_secondPart a_stack a_treeBegin a_helperOperator a_helperFirst a_helperSecond a_chainFrom a_openParts a_stateCost ls a_leafAdd a_oneState a_oneAdd a_twoState a_twoAdd a_trial a_nodeCost a_nodeWays a_cover a_workEntry a_workNode a_nodeState a_nodeBase := by
  intro d
  induction d with
  | zero =>
    intro k hk ls h n hn
    obtain ⟨n, rfl⟩ : ∃ m, n = m + 1 := ⟨n - 1, by omega⟩
    exact pk_le 2 k (fun _ => ⟨45, xl_71 (fun os ts ho ht => K ls os ts (fun j hj => h j (by omega)) ho ht) 44 0 rfl a_oneState (fun j hj => by omega) 45 (by omega)⟩) (fun z => by omega)
  | succ d ih =>
    intro k hk ls h n hn
    obtain ⟨n, rfl⟩ : ∃ m, n = m + 1 := ⟨n - 1, by omega⟩
    refine pk_le 2 k (fun z => by omega) (fun _ => ⟨pk_in k 2 (by omega), nm_r (tc_upc (y := -1) (by omega) rfl) (nm_r (nI_1 k) ?_)⟩)
    refine ih (k + 1) (by omega) _ (fun j hj => ?_) n (by omega)
    by_cases z : j = k
    · rw [z]; exact pk_us
    · rw [pk_un z]; exact h j (by omega)
def xl_L (c : tc_C) (p : Nat) (ho hf hs : Nat → Int32) : Prop := ∀ q, q < p → tc_op c q →
  ho (tc_en c q) = nI (tc_mk c q) ∧ hf (tc_en c q) = (if 2 ≤ tc_mk c q then nI (tc_en c (tc_fp c q)) else -1) ∧ hs (tc_en c q) = (if 4 ≤ tc_mk c q then nI (tc_en c (q - 1)) else -1)
theorem xl_L_skip {c : tc_C} {p : Nat} {ho hf hs : Nat → Int32} (h : xl_L c p ho hf hs) (hp : ¬ tc_op c p) : xl_L c (p + 1) ho hf hs := fun q hq hop => by
  by_cases z : q = p
  · exact absurd (z ▸ hop) hp
  · exact h q (by omega) hop
theorem xl_L_op {c : tc_C} {p : Nat} {ho hf hs : Nat → Int32} {zf zs : Int32} (h : xl_L c p ho hf hs) (hp : tc_op c p) (h1 : zf = (if 2 ≤ tc_mk c p then nI (tc_en c (tc_fp c p)) else -1)) (h2 : zs = (if 4 ≤ tc_mk c p then nI (tc_en c (p - 1)) else -1)) :
    xl_L c (p + 1) (upd ho (tc_en c p) (nI (tc_mk c p))) (upd hf (tc_en c p) zf) (upd hs (tc_en c p) zs) := fun q hq hop => by
  by_cases z : q = p
  · subst z
    exact ⟨pk_us, pk_us.trans h1, pk_us.trans h2⟩
  · have : tc_en c q ≠ tc_en c p := by
      have := tc_cn_lt (c := c) (p := q) (q := p) (by omega) hop
      rw [tc_en_op hop, tc_en_op hp]
      omega
    rw [pk_un this, pk_un this, pk_un this]
    exact h q (by omega) hop
theorem xl_gap {c : tc_C} {r : Nat} {ho hf hs : Nat → Int32} : ∀ d k, k + d = 7 → tc_rn c r ≤ k → xl_L c (7 * r + k) ho hf hs → xl_L c (7 * (r + 1)) ho hf hs ∧ tc_cn c (7 * r + k) = tc_cn c (7 * (r + 1)) := by
  intro d
  induction d with
  | zero =>
    intro k hk h1 h
    have : 7 * r + k = 7 * (r + 1) := by omega
    rw [this] at h ⊢
    exact ⟨h, rfl⟩
  | succ d ih =>
    intro k hk h1 h
    have hno : ¬ tc_op c (7 * r + k) := fun z => by
      have z2 := z.1.2
      rw [show (7 * r + k) / 7 = r by omega, show (7 * r + k) % 7 = k by omega] at z2
      omega
    have := ih (k + 1) (by omega) (by omega) (xl_L_skip h hno)
    rw [← tc_cn_n hno]
    exact this
theorem xl_85 {post : SX → Prop} {J4 : Int32 → Int32 → Int32 → (Nat → Int32) → (Nat → Int32) → (Nat → Int32) → (Nat → Int32) → (Nat → Int32) → (Nat → Int32) → (Nat → Int32) → (Nat → Int32) → (Nat → Int32) → (Nat → Int32) → (Nat → Int32) → (Nat → Int32) → (Nat → Int32) → (Nat → Int32) → (Nat → Int32) → (Nat → Int32) → (Nat → Int32) → (Nat → Int32) → (Nat → Int32) → (Nat → Int32) → (Nat → Int32) → (Nat → Int32) → (Nat → Int32) → (Nat → Int32) → (Nat → Int32) → (Nat → Int32) → (Nat → Int32) → (Nat → Int32) → (Nat → Int32) → (Nat → Int32) → (Nat → Int32) → Prop}
    {r h k E a : Nat} {zf : Int32} (ha : a ≤ 2) (hah : a ≤ h) (hh : h ≤ 6) (hE : E < 74)
    (K : J4 (nI (h + 1 - a)) (nI (k + 1)) (nI (E + 1)) a_draft a_patternBegin a_left a_ruleCost a_ruleSize a_rulePart a_operator a_firstPart a_secondPart a_stack a_treeBegin a_helperOperator (upd a_helperFirst E zf) (upd a_helperSecond E (if a ≤ 1 then -1 else a_openParts (h - 1))) a_chainFrom (upd a_openParts (h - a) (nI E)) a_stateCost a_leafState a_leafAdd a_oneState a_oneAdd a_twoState a_twoAdd a_trial a_nodeCost a_nodeWays a_cover a_workEntry a_workNode a_nodeState a_nodeBase) :
    wX_layRule_85 post J4 (nI r) (nI h) (nI k) (nI E) (nI a) zf (nI E) f_drafted f_patternHeight f_rules f_nodes f_treeHeight f_isLaid (nI E) f_stateCount f_isWhole f_tooMany f_trialLeast f_covered f_works f_fromStates f_whereFirst f_whereSecond a_draft a_patternBegin a_left a_ruleCost a_ruleSize a_rulePart a_operator a_firstPart a_secondPart a_stack a_treeBegin a_helperOperator a_helperFirst a_helperSecond a_chainFrom a_openParts a_stateCost a_leafState a_leafAdd a_oneState a_oneAdd a_twoState a_twoAdd a_trial a_nodeCost a_nodeWays a_cover a_workEntry a_workNode a_nodeState a_nodeBase := by
  have K2 : ∀ zs : Int32, zs = (if a ≤ 1 then -1 else a_openParts (h - 1)) → wX_layRule_110 post J4 (nI r) (nI h) (nI k) (nI E) (nI a) zs (nI E) f_drafted f_patternHeight f_rules f_nodes f_treeHeight f_isLaid (nI E) f_stateCount f_isWhole f_tooMany f_trialLeast f_covered f_works f_fromStates f_whereFirst f_whereSecond a_draft a_patternBegin a_left a_ruleCost a_ruleSize a_rulePart a_operator a_firstPart a_secondPart a_stack a_treeBegin a_helperOperator (upd a_helperFirst E zf) a_helperSecond a_chainFrom a_openParts a_stateCost a_leafState a_leafAdd a_oneState a_oneAdd a_twoState a_twoAdd a_trial a_nodeCost a_nodeWays a_cover a_workEntry a_workNode a_nodeState a_nodeBase := by
    intro zs ez
    subst ez
    have e1 : nI h - nI a = nI (h - a) := pk_sub hah
    have e2 : nI (h - a) + 1 = nI (h + 1 - a) := by rw [nI_1]; exact congrArg nI (by omega)
    exact ⟨pk_in E 74 hE, nm_r (tc_upc (by omega) rfl) (nm_r (nI_1 E) (nm_r e1 ⟨pk_in (h - a) 7 (by omega), nm_r (tc_upc (by omega) rfl) (nm_r e2 (nm_r (nI_1 k) K))⟩))⟩
  refine ⟨pk_in E 74 hE, nm_r (tc_upc (by omega) rfl) (pk_le a 1 (fun z => ?_) (fun z => ?_))⟩
  · exact K2 _ (by rw [if_pos z])
  · have e1 : nI h - 1 = nI (h - 1) := pk_sub (a := h) (b := 1) (by omega)
    exact ⟨pk_in (h - 1) 7 (by omega) e1, K2 _ (by rw [if_neg (by omega), e1, nI_clamp (by omega)])⟩
end
end
section
/-! X: layRule, layOut -/
section
variable {f_drafted f_patternHeight f_rules f_nodes f_treeHeight f_isLaid f_entries f_stateCount f_isWhole f_tooMany f_trialLeast f_covered f_works f_fromStates f_whereFirst f_whereSecond : Int32} {a_draft a_patternBegin a_left a_ruleCost a_ruleSize a_rulePart a_operator a_firstPart a_secondPart a_stack a_treeBegin a_helperOperator a_helperFirst a_helperSecond a_chainFrom a_openParts a_stateCost a_leafState a_leafAdd a_oneState a_oneAdd a_twoState a_twoAdd a_trial a_nodeCost a_nodeWays a_cover a_workEntry a_workNode a_nodeState a_nodeBase : Nat → Int32} {c : tc_C}
/-- X's rules hold the picture -/
def xl_R (c : tc_C) (left ruleCost ruleSize rulePart : Nat → Int32) : Prop := ∀ r, r < tc_nr c →
  left r = nI (tc_lf c r) ∧ ruleCost r = nI (tc_rc c r) ∧ ruleSize r = nI (tc_rn c r) ∧ ∀ k, k < tc_rn c r → rulePart (7 * r + k) = tc_cd (tc_mk c (7 * r + k))
def xl_O (c : tc_C) (r h : Nat) (rt : Nat → Nat) (oq : Nat → Int32) : Prop := ∀ j, j < h → oq j = nI (tc_en c (7 * r + rt j))
theorem xl_O_push {r h a k : Nat} {rt : Nat → Nat} {oq : Nat → Int32} {x : Int32} (h0 : xl_O c r h rt oq) (ha : a ≤ h) (hx : x = nI (tc_en c (7 * r + k))) : xl_O c r (h + 1 - a) (tc_up rt (h - a) k) (upd oq (h - a) x) := by
  intro j hj
  unfold tc_up
  by_cases z : j = h - a
  · rw [z, if_pos rfl, pk_us, hx]
  · rw [if_neg z, pk_un z]
    exact h0 j (by omega)
theorem xl_4 (W : tc_wf c) {r : Nat} (hr : r < tc_nr c) (R : xl_R c a_left a_ruleCost a_ruleSize a_rulePart) {post : SX → Prop}
    (K : ∀ ho hf hs oq : Nat → Int32, xl_L c (7 * (r + 1)) ho hf hs → post (f_drafted, f_patternHeight, f_rules, f_nodes, f_treeHeight, f_isLaid, nI (4 + tc_cn c (7 * (r + 1))), f_stateCount, f_isWhole, f_tooMany, f_trialLeast, f_covered, f_works, f_fromStates, f_whereFirst, f_whereSecond, a_draft, a_patternBegin, a_left, a_ruleCost, a_ruleSize, a_rulePart, a_operator, a_firstPart, a_secondPart, a_stack, a_treeBegin, ho, hf, hs, upd a_chainFrom r (nI (tc_cf c r)), oq, a_stateCost, a_leafState, a_leafAdd, a_oneState, a_oneAdd, a_twoState, a_twoAdd, a_trial, a_nodeCost, a_nodeWays, a_cover, a_workEntry, a_workNode, a_nodeState, a_nodeBase)) :
    ∀ d k, k + d = tc_rn c r → ∀ (rt : Nat → Nat) (ho hf hs oq : Nat → Int32), tc_fo (fun k => tc_sz c (7 * r + k)) k (tc_ht (fun k => tc_mk c (7 * r + k)) k) rt →
      xl_O c r (tc_ht (fun k => tc_mk c (7 * r + k)) k) rt oq → xl_L c (7 * r + k) ho hf hs → ∀ n, d < n →
      wX_layRule_4 post (nI r) f_drafted f_patternHeight f_rules f_nodes f_treeHeight f_isLaid f_stateCount f_isWhole f_tooMany f_trialLeast f_covered f_works f_fromStates f_whereFirst f_whereSecond n (nI (tc_ht (fun k => tc_mk c (7 * r + k)) k)) (nI k) (nI (4 + tc_cn c (7 * r + k))) a_draft a_patternBegin a_left a_ruleCost a_ruleSize a_rulePart a_operator a_firstPart a_secondPart a_stack a_treeBegin ho hf hs a_chainFrom oq a_stateCost a_leafState a_leafAdd a_oneState a_oneAdd a_twoState a_twoAdd a_trial a_nodeCost a_nodeWays a_cover a_workEntry a_workNode a_nodeState a_nodeBase := by
  obtain ⟨r1, r2, r3, r4⟩ := R r hr
  obtain ⟨w1, w2, w3, w4, w5, w6, w7⟩ := W.2 r hr
  have h10 : r < 10 := by have := W.1; omega
  intro d
  induction d with
  | zero =>
    intro k hk rt ho hf hs oq F O L n hn
    obtain ⟨n, rfl⟩ : ∃ m, n = m + 1 := ⟨n - 1, by omega⟩
    have ek : k = tc_rn c r := by omega
    subst ek
    obtain ⟨g1, g2⟩ := xl_gap (7 - tc_rn c r) (tc_rn c r) (by omega) (Nat.le_refl _) L
    refine ⟨pk_in r 10 h10, pk_le (tc_rn c r) (tc_rn c r) (fun _ => ⟨pk_in r 10 h10, nm_r (tc_upc (by omega) (y := nI (tc_cf c r)) ?_) ?_⟩) (fun z => by omega) (by rw [nI_clamp (by omega)]; exact r3)⟩
    · rw [w6] at O F
      have e1 : rt 0 + 1 = tc_rn c r := F.2.1
      rw [O 0 (by omega)]
      unfold tc_cf
      rw [show 7 * r + rt 0 = 7 * r + tc_rn c r - 1 by omega]
    · rw [g2]
      exact K ho hf hs oq g1
  | succ d ih =>
    intro k hk rt ho hf hs oq F O L n hn
    obtain ⟨n, rfl⟩ : ∃ m, n = m + 1 := ⟨n - 1, by omega⟩
    obtain ⟨p1, p2, p3⟩ := w5 k (by omega)
    have hus := tc_us_of hr (show k < tc_rn c r by omega) W
    have hkh := tc_ht_le (fun k => tc_mk c (7 * r + k)) k
    have F2 := tc_fo_step F p2 (tc_ar2 p1) p3
    dsimp only at p1 p2 p3
    have e7 : (7 : Int32) * nI r + nI k = nI (7 * r + k) := by rw [show (7 : Int32) = nI 7 from rfl, pk_mul, nI_add]
    have hp : a_rulePart (7 * nI r + nI k).toNatClampNeg = tc_cd (tc_mk c (7 * r + k)) := by rw [e7, nI_clamp (by omega)]; exact r4 k (by omega)
    have hin : vp_in (7 * nI r + nI k) 70 := by rw [e7]; exact vp_in_nI (by omega) (by decide)
    have hE : 4 + tc_cn c (7 * r + k) < 74 := by
      have := tc_cn_le (c := c) (7 * r + k)
      omega
    refine ⟨pk_in r 10 h10, pk_le (tc_rn c r) k (fun z => by omega) (fun _ => ⟨hin, nm_r hp ?_⟩) (by rw [nI_clamp (by omega)]; exact r3)⟩
    by_cases hm : tc_mk c (7 * r + k) < 10
    · -- an operator
      have hop : tc_op c (7 * r + k) := ⟨hus, hm⟩
      have ha : tc_ar (tc_mk c (7 * r + k)) = tc_mk c (7 * r + k) / 2 := if_pos hm
      have ha2 := tc_ar2 p1
      have ecd := tc_cd_op hm
      have een := tc_en_op hop
      have step : ∀ zf : Int32, zf = (if 2 ≤ tc_mk c (7 * r + k) then nI (tc_en c (tc_fp c (7 * r + k))) else -1) →
          wX_layRule_85 post (wX_layRule_4 post (nI r) f_drafted f_patternHeight f_rules f_nodes f_treeHeight f_isLaid f_stateCount f_isWhole f_tooMany f_trialLeast f_covered f_works f_fromStates f_whereFirst f_whereSecond n) (nI r) (nI (tc_ht (fun k => tc_mk c (7 * r + k)) k)) (nI k) (nI (4 + tc_cn c (7 * r + k))) (nI (tc_mk c (7 * r + k) / 2)) zf (nI (4 + tc_cn c (7 * r + k))) f_drafted f_patternHeight f_rules f_nodes f_treeHeight f_isLaid (nI (4 + tc_cn c (7 * r + k))) f_stateCount f_isWhole f_tooMany f_trialLeast f_covered f_works f_fromStates f_whereFirst f_whereSecond a_draft a_patternBegin a_left a_ruleCost a_ruleSize a_rulePart a_operator a_firstPart a_secondPart a_stack a_treeBegin (upd ho (4 + tc_cn c (7 * r + k)) (nI (tc_mk c (7 * r + k)))) hf hs a_chainFrom oq a_stateCost a_leafState a_leafAdd a_oneState a_oneAdd a_twoState a_twoAdd a_trial a_nodeCost a_nodeWays a_cover a_workEntry a_workNode a_nodeState a_nodeBase := by
        intro zf hz
        rw [← ha]
        refine xl_85 ha2 p2 (by omega) hE ?_
        have ecn : 4 + tc_cn c (7 * r + k) + 1 = 4 + tc_cn c (7 * r + (k + 1)) := by
          rw [show 7 * r + (k + 1) = 7 * r + k + 1 by omega, tc_cn_s hop]; omega
        rw [ecn]
        have hzs : (if tc_ar (tc_mk c (7 * r + k)) ≤ 1 then -1 else oq (tc_ht (fun k => tc_mk c (7 * r + k)) k - 1)) = (if 4 ≤ tc_mk c (7 * r + k) then nI (tc_en c (7 * r + k - 1)) else -1) := by
          by_cases z : 4 ≤ tc_mk c (7 * r + k)
          · rw [if_neg (by omega), if_pos z, O _ (by omega)]
            obtain ⟨h', eh⟩ : ∃ h', tc_ht (fun k => tc_mk c (7 * r + k)) k = h' + 1 := ⟨tc_ht (fun k => tc_mk c (7 * r + k)) k - 1, by omega⟩
            have f2 := F.2.1
            rw [eh] at f2 ⊢
            have e2 : rt h' + 1 = k := f2
            rw [show h' + 1 - 1 = h' from rfl, show 7 * r + rt h' = 7 * r + k - 1 by omega]
          · rw [if_pos (by omega), if_neg z]
        have L2 := xl_L_op L hop hz hzs
        rw [een] at L2
        exact ih (k + 1) (by omega) _ _ _ _ _ F2 (xl_O_push O p2 (by rw [een])) L2 n (by omega)
      refine nm_e (br_f (by rw [ecd]; exact nI_pos (by omega)) ?_)
      rw [ecd]
      refine xs_arity (by omega) ⟨pk_in (4 + tc_cn c (7 * r + k)) 74 hE, nm_r (tc_upc (by omega) rfl) (pk_le (tc_mk c (7 * r + k) / 2) 0 (fun z => ?_) (fun z => ?_))⟩
      · exact step _ (by rw [if_neg (by omega)])
      · have es : nI (tc_ht (fun k => tc_mk c (7 * r + k)) k) - nI (tc_mk c (7 * r + k) / 2) = nI (tc_ht (fun k => tc_mk c (7 * r + k)) k - tc_mk c (7 * r + k) / 2) := pk_sub (by omega)
        refine ⟨pk_in (tc_ht (fun k => tc_mk c (7 * r + k)) k - tc_mk c (7 * r + k) / 2) 7 (by omega) es, step _ ?_⟩
        rw [es, nI_clamp (by omega), O _ (by omega), if_pos (by omega)]
        unfold tc_fp
        obtain ⟨h', eh⟩ : ∃ h', tc_ht (fun k => tc_mk c (7 * r + k)) k = h' + 1 := ⟨tc_ht (fun k => tc_mk c (7 * r + k)) k - 1, by omega⟩
        have f2 := F.2.1
        rw [eh] at f2 F ⊢
        have e2 : rt h' + 1 = k := f2
        by_cases y : tc_mk c (7 * r + k) < 4
        · rw [if_pos y, show h' + 1 - tc_mk c (7 * r + k) / 2 = h' by omega, show 7 * r + rt h' = 7 * r + k - 1 by omega]
        · rw [if_neg y]
          obtain ⟨h'', rfl⟩ : ∃ h'', h' = h'' + 1 := ⟨h' - 1, by omega⟩
          have f1 := (F.1 (h'' + 1) (by omega)).2
          have e3 : rt (h'' + 1) + 1 = rt h'' + 1 + tc_sz c (7 * r + rt (h'' + 1)) := f1
          rw [show 7 * r + rt (h'' + 1) = 7 * r + k - 1 by omega] at e3
          rw [show h'' + 1 + 1 - tc_mk c (7 * r + k) / 2 = h'' by omega, show 7 * r + rt h'' = 7 * r + k - 1 - tc_sz c (7 * r + k - 1) by omega]
    · -- a goal
      obtain ⟨q1, q2⟩ := tc_cd_go (tc_mk c (7 * r + k)) (by omega) (by omega)
      have ha : tc_ar (tc_mk c (7 * r + k)) = 0 := if_neg hm
      have hno : ¬ tc_op c (7 * r + k) := fun z => hm z.2
      refine nm_r q2 (br_t q1 ?_)
      have L2 := xl_L_skip L hno
      have P2 := xl_O_push O p2 (x := nI (tc_mk c (7 * r + k) - 10)) (by rw [tc_en_go hm])
      have := ih (k + 1) (by omega) _ _ _ _ _ F2 P2 L2 n (by omega)
      rw [show 7 * r + (k + 1) = 7 * r + k + 1 by omega, tc_cn_n hno] at this
      have eh : tc_ht (fun k => tc_mk c (7 * r + k)) (k + 1) = tc_ht (fun k => tc_mk c (7 * r + k)) k + 1 := by
        show tc_ht (fun k => tc_mk c (7 * r + k)) k + 1 - tc_ar (tc_mk c (7 * r + k)) = _
        rw [ha]; rfl
      rw [eh, ha, Nat.sub_zero] at this
      exact ⟨pk_in (tc_ht (fun k => tc_mk c (7 * r + k)) k) 7 (by omega), nm_r (tc_upc (by omega) rfl) (nm_r (nI_1 _) (nm_r (nI_1 k) this))⟩
theorem xl_15 (W : tc_wf c) (R : xl_R c a_left a_ruleCost a_ruleSize a_rulePart) {post : SX → Prop}
    (K : ∀ ho hf hs ch oq ls os ts : Nat → Int32, xl_L c (7 * tc_nr c) ho hf hs → (∀ r, r < tc_nr c → ch r = nI (tc_cf c r)) → (∀ j, j < 2 → ls j = -1) → (∀ j, j < 44 → os j = -1) → (∀ j, j < 968 → ts j = -1) →
      post (f_drafted, f_patternHeight, nI (tc_nr c), f_nodes, f_treeHeight, 1, nI (tc_N c), 0, 0, 0, f_trialLeast, f_covered, f_works, f_fromStates, f_whereFirst, f_whereSecond, a_draft, a_patternBegin, a_left, a_ruleCost, a_ruleSize, a_rulePart, a_operator, a_firstPart, a_secondPart, a_stack, a_treeBegin, ho, hf, hs, ch, oq, a_stateCost, ls, a_leafAdd, os, a_oneAdd, ts, a_twoAdd, a_trial, a_nodeCost, a_nodeWays, a_cover, a_workEntry, a_workNode, a_nodeState, a_nodeBase)) :
    ∀ d r, r + d = tc_nr c → ∀ ho hf hs ch oq : Nat → Int32, xl_L c (7 * r) ho hf hs → (∀ q, q < r → ch q = nI (tc_cf c q)) → ∀ n, d < n →
      wX_layOut_15 post n (nI r) f_drafted f_patternHeight (nI (tc_nr c)) f_nodes f_treeHeight f_isLaid (nI (4 + tc_cn c (7 * r))) f_stateCount f_isWhole f_tooMany f_trialLeast f_covered f_works f_fromStates f_whereFirst f_whereSecond a_draft a_patternBegin a_left a_ruleCost a_ruleSize a_rulePart a_operator a_firstPart a_secondPart a_stack a_treeBegin ho hf hs ch oq a_stateCost a_leafState a_leafAdd a_oneState a_oneAdd a_twoState a_twoAdd a_trial a_nodeCost a_nodeWays a_cover a_workEntry a_workNode a_nodeState a_nodeBase := by
  have h10 := W.1
  intro d
  induction d with
  | zero =>
    intro r hr ho hf hs ch oq L C n hn
    obtain ⟨n, rfl⟩ : ∃ m, n = m + 1 := ⟨n - 1, by omega⟩
    have er : r = tc_nr c := by omega
    subst er
    refine pk_le (tc_nr c) (tc_nr c) (fun _ => ⟨3, ?_⟩) (fun z => by omega)
    exact xl_51 (fun ls os ts h1 h2 h3 => K ho hf hs ch oq ls os ts L C h1 h2 h3) 2 0 rfl a_leafState (fun j hj => by omega) 3 (by omega)
  | succ d ih =>
    intro r hr ho hf hs ch oq L C n hn
    obtain ⟨n, rfl⟩ : ∃ m, n = m + 1 := ⟨n - 1, by omega⟩
    refine pk_le (tc_nr c) r (fun z => by omega) (fun _ => ⟨8, ?_⟩)
    have F0 : tc_fo (fun k => tc_sz c (7 * r + k)) 0 0 (fun _ => 0) := tc_fo_0
    refine xl_4 W (show r < tc_nr c by omega) R (fun ho hf hs oq L2 => nm_r (nI_1 r) ?_) (tc_rn c r) 0 (by omega) (fun _ => 0) ho hf hs oq F0 (fun j hj => absurd hj (Nat.not_lt_zero _)) L 8 (by have := (W.2 r (by omega)).2.2.2.1; omega)
    refine ih (r + 1) (by omega) ho hf hs _ oq L2 (fun q hq => ?_) n (by omega)
    by_cases z : q = r
    · rw [z]; exact pk_us
    · rw [pk_un z]; exact C q (by omega)
/-- what is laid out -/
def xl_A (c : tc_C) (ho hf hs ch : Nat → Int32) : Prop := xl_L c (7 * tc_nr c) ho hf hs ∧ ∀ r, r < tc_nr c → ch r = nI (tc_cf c r)
theorem xl_out (W : tc_wf c) (R : xl_R c a_left a_ruleCost a_ruleSize a_rulePart) {post : SX → Prop} (h0 : f_isLaid = 0)
    (K : ∀ ho hf hs ch oq ls os ts : Nat → Int32, xl_A c ho hf hs ch → (∀ j, j < 2 → ls j = -1) → (∀ j, j < 44 → os j = -1) → (∀ j, j < 968 → ts j = -1) →
      post (f_drafted, f_patternHeight, nI (tc_nr c), f_nodes, f_treeHeight, 1, nI (tc_N c), 0, 0, 0, f_trialLeast, f_covered, f_works, f_fromStates, f_whereFirst, f_whereSecond, a_draft, a_patternBegin, a_left, a_ruleCost, a_ruleSize, a_rulePart, a_operator, a_firstPart, a_secondPart, a_stack, a_treeBegin, ho, hf, hs, ch, oq, a_stateCost, ls, a_leafAdd, os, a_oneAdd, ts, a_twoAdd, a_trial, a_nodeCost, a_nodeWays, a_cover, a_workEntry, a_workNode, a_nodeState, a_nodeBase)) :
    wpX_layOut post (f_drafted, f_patternHeight, nI (tc_nr c), f_nodes, f_treeHeight, f_isLaid, f_entries, f_stateCount, f_isWhole, f_tooMany, f_trialLeast, f_covered, f_works, f_fromStates, f_whereFirst, f_whereSecond, a_draft, a_patternBegin, a_left, a_ruleCost, a_ruleSize, a_rulePart, a_operator, a_firstPart, a_secondPart, a_stack, a_treeBegin, a_helperOperator, a_helperFirst, a_helperSecond, a_chainFrom, a_openParts, a_stateCost, a_leafState, a_leafAdd, a_oneState, a_oneAdd, a_twoState, a_twoAdd, a_trial, a_nodeCost, a_nodeWays, a_cover, a_workEntry, a_workNode, a_nodeState, a_nodeBase) := by
  refine br_t h0 ⟨tc_nr c + 1, ?_⟩
  exact xl_15 W R (fun ho hf hs ch oq ls os ts L C h1 h2 h3 => K ho hf hs ch oq ls os ts ⟨L, C⟩ h1 h2 h3) (tc_nr c) 0 (by omega) _ _ _ _ _ (fun q hq => by omega) (fun q hq => by omega) _ (by omega)
end
end
section
/-! X: tryOperator -/
section
variable {f_drafted f_patternHeight f_rules f_nodes f_treeHeight f_isLaid f_entries f_stateCount f_isWhole f_tooMany f_trialLeast f_covered f_works f_fromStates f_whereFirst f_whereSecond : Int32} {a_draft a_patternBegin a_left a_ruleCost a_ruleSize a_rulePart a_operator a_firstPart a_secondPart a_stack a_treeBegin a_helperOperator a_helperFirst a_helperSecond a_chainFrom a_openParts a_stateCost a_leafState a_leafAdd a_oneState a_oneAdd a_twoState a_twoAdd a_trial a_nodeCost a_nodeWays a_cover a_workEntry a_workNode a_nodeState a_nodeBase : Nat → Int32} {c : tc_C}
def xt_T (N : Nat) (t : Nat → Nat) (tr : Nat → Int32) : Prop := ∀ e, e < N → tr e = nI (t e)
def xt_P (fs : Int32) (sc nc : Nat → Int32) (N wh : Nat) (w : Nat → Nat) : Prop :=
  (fs = 0 ∧ wh < 24 ∧ ∀ e, e < N → nc (74 * wh + e) = nI (w e)) ∨ (fs = 1 ∧ wh < 22 ∧ ∀ e, e < N → sc (74 * wh + e) = nI (w e))
theorem xt_74 (a b : Nat) : (74 : Int32) * nI a + nI b = nI (74 * a + b) := by rw [show (74 : Int32) = nI 74 from rfl, pk_mul, nI_add]
theorem xt_part {post : Int32 → Prop} {N wh e : Nat} {w : Nat → Nat} (hN : N ≤ 74) (P : xt_P f_fromStates a_stateCost a_nodeCost N wh w) (he : e < N) (K : post (nI (w e))) : wpX_partCost post (f_drafted, f_patternHeight, f_rules, f_nodes, f_treeHeight, f_isLaid, f_entries, f_stateCount, f_isWhole, f_tooMany, f_trialLeast, f_covered, f_works, f_fromStates, f_whereFirst, f_whereSecond, a_draft, a_patternBegin, a_left, a_ruleCost, a_ruleSize, a_rulePart, a_operator, a_firstPart, a_secondPart, a_stack, a_treeBegin, a_helperOperator, a_helperFirst, a_helperSecond, a_chainFrom, a_openParts, a_stateCost, a_leafState, a_leafAdd, a_oneState, a_oneAdd, a_twoState, a_twoAdd, a_trial, a_nodeCost, a_nodeWays, a_cover, a_workEntry, a_workNode, a_nodeState, a_nodeBase) (nI wh) (nI e) := by
  rcases P with ⟨p0, p1, p2⟩ | ⟨p0, p1, p2⟩
  · refine br_t p0 ⟨pk_in (74 * wh + e) 1776 (by omega) (xt_74 wh e), ?_⟩
    rw [xt_74, nI_clamp (by omega), p2 e he]
    exact K
  · refine br_f (by rw [p0]; decide) ⟨pk_in (74 * wh + e) 1628 (by omega) (xt_74 wh e), ?_⟩
    rw [xt_74, nI_clamp (by omega), p2 e he]
    exact K
theorem xt_66 {post : Int32 → Prop} {a b : Nat} (ha : a ≤ 2000000) (hb : b ≤ 2000000) (K : post (nI (tc_sm a b))) : wX_helperCost_66 post (nI a) (nI b) f_drafted f_patternHeight f_rules f_nodes f_treeHeight f_isLaid f_entries f_stateCount f_isWhole f_tooMany f_trialLeast f_covered f_works f_fromStates f_whereFirst f_whereSecond a_draft a_patternBegin a_left a_ruleCost a_ruleSize a_rulePart a_operator a_firstPart a_secondPart a_stack a_treeBegin a_helperOperator a_helperFirst a_helperSecond a_chainFrom a_openParts a_stateCost a_leafState a_leafAdd a_oneState a_oneAdd a_twoState a_twoAdd a_trial a_nodeCost a_nodeWays a_cover a_workEntry a_workNode a_nodeState a_nodeBase := by
  unfold tc_sm at K
  refine pk_le 1000000 a (fun h => ?_) (fun h => pk_lt b 1000000 (fun z => ?_) (fun z => ?_))
  · rw [if_pos h] at K; exact K
  · rw [if_neg (by omega), if_pos z, ← nI_add] at K; exact K
  · rw [if_neg (by omega), if_neg (by omega)] at K; exact K
theorem xt_partE {post : Int32 → Prop} {N wh e : Nat} {w : Nat → Nat} {x y : Int32} (hN : N ≤ 74) (P : xt_P f_fromStates a_stateCost a_nodeCost N wh w) (he : e < N) (hx : x = nI wh) (hy : y = nI e) (K : post (nI (w e))) : wpX_partCost post (f_drafted, f_patternHeight, f_rules, f_nodes, f_treeHeight, f_isLaid, f_entries, f_stateCount, f_isWhole, f_tooMany, f_trialLeast, f_covered, f_works, f_fromStates, f_whereFirst, f_whereSecond, a_draft, a_patternBegin, a_left, a_ruleCost, a_ruleSize, a_rulePart, a_operator, a_firstPart, a_secondPart, a_stack, a_treeBegin, a_helperOperator, a_helperFirst, a_helperSecond, a_chainFrom, a_openParts, a_stateCost, a_leafState, a_leafAdd, a_oneState, a_oneAdd, a_twoState, a_twoAdd, a_trial, a_nodeCost, a_nodeWays, a_cover, a_workEntry, a_workNode, a_nodeState, a_nodeBase) x y := by
  subst hx; subst hy
  exact xt_part hN P he K
theorem xt_41 {post : Int32 → Prop} {x1 : Int32} {o a b : Nat} (ha : a ≤ 2000000) (i1 : vp_in x1 74) (h0 : o / 2 ≤ 1 → b = 0) (hb : 1 < o / 2 → wpX_partCost (fun r => wX_helperCost_66 post (nI a) r f_drafted f_patternHeight f_rules f_nodes f_treeHeight f_isLaid f_entries f_stateCount f_isWhole f_tooMany f_trialLeast f_covered f_works f_fromStates f_whereFirst f_whereSecond a_draft a_patternBegin a_left a_ruleCost a_ruleSize a_rulePart a_operator a_firstPart a_secondPart a_stack a_treeBegin a_helperOperator a_helperFirst a_helperSecond a_chainFrom a_openParts a_stateCost a_leafState a_leafAdd a_oneState a_oneAdd a_twoState a_twoAdd a_trial a_nodeCost a_nodeWays a_cover a_workEntry a_workNode a_nodeState a_nodeBase) (f_drafted, f_patternHeight, f_rules, f_nodes, f_treeHeight, f_isLaid, f_entries, f_stateCount, f_isWhole, f_tooMany, f_trialLeast, f_covered, f_works, f_fromStates, f_whereFirst, f_whereSecond, a_draft, a_patternBegin, a_left, a_ruleCost, a_ruleSize, a_rulePart, a_operator, a_firstPart, a_secondPart, a_stack, a_treeBegin, a_helperOperator, a_helperFirst, a_helperSecond, a_chainFrom, a_openParts, a_stateCost, a_leafState, a_leafAdd, a_oneState, a_oneAdd, a_twoState, a_twoAdd, a_trial, a_nodeCost, a_nodeWays, a_cover, a_workEntry, a_workNode, a_nodeState, a_nodeBase) f_whereSecond (a_helperSecond x1.toNatClampNeg)) (ho : o < 6)
    (K : o / 2 ≤ 1 → post (nI (tc_sm a 0))) : wX_helperCost_41 post x1 (nI (o / 2)) (nI a) f_drafted f_patternHeight f_rules f_nodes f_treeHeight f_isLaid f_entries f_stateCount f_isWhole f_tooMany f_trialLeast f_covered f_works f_fromStates f_whereFirst f_whereSecond a_draft a_patternBegin a_left a_ruleCost a_ruleSize a_rulePart a_operator a_firstPart a_secondPart a_stack a_treeBegin a_helperOperator a_helperFirst a_helperSecond a_chainFrom a_openParts a_stateCost a_leafState a_leafAdd a_oneState a_oneAdd a_twoState a_twoAdd a_trial a_nodeCost a_nodeWays a_cover a_workEntry a_workNode a_nodeState a_nodeBase := by
  refine pk_le (o / 2) 1 (fun z => ?_) (fun z => ⟨i1, hb z⟩)
  exact xt_66 (b := 0) ha (by omega) (K z)
theorem xt_help (W : tc_wf c) (A : xl_A c a_helperOperator a_helperFirst a_helperSecond a_chainFrom) {post : Int32 → Prop} {o p : Nat} {wa wb : Nat → Nat} (ho : o < 6) (hp : tc_op c p)
    (hwa : ∀ e, wa e ≤ 1000000) (hwb : ∀ e, wb e ≤ 1000000)
    (hA : 2 ≤ o → ∃ wh, f_whereFirst = nI wh ∧ xt_P f_fromStates a_stateCost a_nodeCost (tc_N c) wh wa) (hB : 4 ≤ o → ∃ wh, f_whereSecond = nI wh ∧ xt_P f_fromStates a_stateCost a_nodeCost (tc_N c) wh wb)
    (K : post (nI (tc_hp c o wa wb p))) : wpX_helperCost post (f_drafted, f_patternHeight, f_rules, f_nodes, f_treeHeight, f_isLaid, f_entries, f_stateCount, f_isWhole, f_tooMany, f_trialLeast, f_covered, f_works, f_fromStates, f_whereFirst, f_whereSecond, a_draft, a_patternBegin, a_left, a_ruleCost, a_ruleSize, a_rulePart, a_operator, a_firstPart, a_secondPart, a_stack, a_treeBegin, a_helperOperator, a_helperFirst, a_helperSecond, a_chainFrom, a_openParts, a_stateCost, a_leafState, a_leafAdd, a_oneState, a_oneAdd, a_twoState, a_twoAdd, a_trial, a_nodeCost, a_nodeWays, a_cover, a_workEntry, a_workNode, a_nodeState, a_nodeBase) (nI (tc_en c p)) (nI o) := by
  obtain ⟨a1, a2, a3⟩ := A.1 p (tc_us_lt W hp.1).1 hp
  obtain ⟨l1, l2, l3, l4, l5, -⟩ := tc_loc W hp.1
  have hN := tc_N_le W
  have he := tc_en_lt W hp.1
  have hm := hp.2
  have hin : vp_in (nI (tc_en c p)) 74 := vp_in_nI (by omega) (by decide)
  have c1 : a_helperOperator (nI (tc_en c p)).toNatClampNeg = nI (tc_mk c p) := by rw [nI_clamp (by omega)]; exact a1
  have h41 : ∀ a, tc_mk c p = o → a ≤ 1000000 → a = tc_ha c o wa p → wX_helperCost_41 post (nI (tc_en c p)) (nI (o / 2)) (nI a) f_drafted f_patternHeight f_rules f_nodes f_treeHeight f_isLaid f_entries f_stateCount f_isWhole f_tooMany f_trialLeast f_covered f_works f_fromStates f_whereFirst f_whereSecond a_draft a_patternBegin a_left a_ruleCost a_ruleSize a_rulePart a_operator a_firstPart a_secondPart a_stack a_treeBegin a_helperOperator a_helperFirst a_helperSecond a_chainFrom a_openParts a_stateCost a_leafState a_leafAdd a_oneState a_oneAdd a_twoState a_twoAdd a_trial a_nodeCost a_nodeWays a_cover a_workEntry a_workNode a_nodeState a_nodeBase := by
    intro a e ha ea
    have K2 : post (nI (tc_sm a (tc_hb c o wb p))) := by
      rw [ea]
      unfold tc_hp at K
      rw [if_pos e] at K
      exact K
    refine xt_41 (b := 0) (by omega) hin (fun _ => rfl) (fun z => ?_) ho (fun z => ?_)
    · obtain ⟨wh, e1, P⟩ := hB (by omega)
      have c3 : a_helperSecond (nI (tc_en c p)).toNatClampNeg = nI (tc_en c (p - 1)) := by
        rw [nI_clamp (by omega), a3, if_pos (by omega)]
      have hb : tc_hb c o wb p = wb (tc_en c (p - 1)) := if_pos (by omega)
      rw [hb] at K2
      exact xt_partE hN.2 P (tc_en_lt W (l4 (by omega) hm).2) e1 c3 (xt_66 (by omega) (Nat.le_trans (hwb _) (by omega)) K2)
    · have hb : tc_hb c o wb p = 0 := if_neg (by omega)
      rw [hb] at K2
      exact K2
  have k1 : tc_mk c p = o → wpX_arity (fun r_3 => (((r_3 ≤ 0 → (wX_helperCost_41 post (nI (tc_en c p)) r_3 0 f_drafted f_patternHeight f_rules f_nodes f_treeHeight f_isLaid f_entries f_stateCount f_isWhole f_tooMany f_trialLeast f_covered f_works f_fromStates f_whereFirst f_whereSecond a_draft a_patternBegin a_left a_ruleCost a_ruleSize a_rulePart a_operator a_firstPart a_secondPart a_stack a_treeBegin a_helperOperator a_helperFirst a_helperSecond a_chainFrom a_openParts a_stateCost a_leafState a_leafAdd a_oneState a_oneAdd a_twoState a_twoAdd a_trial a_nodeCost a_nodeWays a_cover a_workEntry a_workNode a_nodeState a_nodeBase)) ∧ (¬ r_3 ≤ 0 → (vp_in (nI (tc_en c p)) 74 ∧ (wpX_partCost (fun r_105 => (wX_helperCost_41 post (nI (tc_en c p)) r_3 r_105 f_drafted f_patternHeight f_rules f_nodes f_treeHeight f_isLaid f_entries f_stateCount f_isWhole f_tooMany f_trialLeast f_covered f_works f_fromStates f_whereFirst f_whereSecond a_draft a_patternBegin a_left a_ruleCost a_ruleSize a_rulePart a_operator a_firstPart a_secondPart a_stack a_treeBegin a_helperOperator a_helperFirst a_helperSecond a_chainFrom a_openParts a_stateCost a_leafState a_leafAdd a_oneState a_oneAdd a_twoState a_twoAdd a_trial a_nodeCost a_nodeWays a_cover a_workEntry a_workNode a_nodeState a_nodeBase)) (f_drafted, f_patternHeight, f_rules, f_nodes, f_treeHeight, f_isLaid, f_entries, f_stateCount, f_isWhole, f_tooMany, f_trialLeast, f_covered, f_works, f_fromStates, f_whereFirst, f_whereSecond, a_draft, a_patternBegin, a_left, a_ruleCost, a_ruleSize, a_rulePart, a_operator, a_firstPart, a_secondPart, a_stack, a_treeBegin, a_helperOperator, a_helperFirst, a_helperSecond, a_chainFrom, a_openParts, a_stateCost, a_leafState, a_leafAdd, a_oneState, a_oneAdd, a_twoState, a_twoAdd, a_trial, a_nodeCost, a_nodeWays, a_cover, a_workEntry, a_workNode, a_nodeState, a_nodeBase) f_whereFirst (a_helperFirst (nI (tc_en c p)).toNatClampNeg))))))) (f_drafted, f_patternHeight, f_rules, f_nodes, f_treeHeight, f_isLaid, f_entries, f_stateCount, f_isWhole, f_tooMany, f_trialLeast, f_covered, f_works, f_fromStates, f_whereFirst, f_whereSecond, a_draft, a_patternBegin, a_left, a_ruleCost, a_ruleSize, a_rulePart, a_operator, a_firstPart, a_secondPart, a_stack, a_treeBegin, a_helperOperator, a_helperFirst, a_helperSecond, a_chainFrom, a_openParts, a_stateCost, a_leafState, a_leafAdd, a_oneState, a_oneAdd, a_twoState, a_twoAdd, a_trial, a_nodeCost, a_nodeWays, a_cover, a_workEntry, a_workNode, a_nodeState, a_nodeBase) (nI o) := by
    intro e
    refine xs_arity (by omega) (pk_le (o / 2) 0 (fun z => ?_) (fun z => ⟨hin, ?_⟩))
    · exact h41 0 e (by omega) (if_neg (by omega)).symm
    · obtain ⟨wh, e1, P⟩ := hA (by omega)
      have c2 : a_helperFirst (nI (tc_en c p)).toNatClampNeg = nI (tc_en c (tc_fp c p)) := by
        rw [nI_clamp (by omega), a2, if_pos (by omega)]
      have hfp : tc_us c (tc_fp c p) := by
        unfold tc_fp
        split
        · exact (l4 (by omega) hm).2
        · exact (l5 (by omega) hm).2
      exact xt_partE hN.2 P (tc_en_lt W hfp) e1 c2 (h41 _ e (hwa _) (if_pos (by omega)).symm)
  have k2 : tc_mk c p ≠ o → post 1000000 := fun e => by
    unfold tc_hp at K
    rw [if_neg e] at K
    exact K
  exact ⟨hin, pk_eq (tc_mk c p) o k1 k2 c1⟩
theorem xt_48 {post : SX → Prop} {J2 J9 : Int32 → (Nat → Int32) → (Nat → Int32) → (Nat → Int32) → (Nat → Int32) → (Nat → Int32) → (Nat → Int32) → (Nat → Int32) → (Nat → Int32) → (Nat → Int32) → (Nat → Int32) → (Nat → Int32) → (Nat → Int32) → (Nat → Int32) → (Nat → Int32) → (Nat → Int32) → (Nat → Int32) → (Nat → Int32) → (Nat → Int32) → (Nat → Int32) → (Nat → Int32) → (Nat → Int32) → (Nat → Int32) → (Nat → Int32) → (Nat → Int32) → (Nat → Int32) → (Nat → Int32) → (Nat → Int32) → (Nat → Int32) → (Nat → Int32) → (Nat → Int32) → (Nat → Int32) → Prop} {x1 : Int32} {r l v z : Nat} (hr : r < 10) (hl : l < 4) (el : a_left r = nI l) (ev : a_trial l = nI v) (hv : v ≤ 2000000) (hz : z ≤ 2000010)
    (K : ∀ tr : Nat → Int32, (∀ e, tr e = if e = l then nI (if z < v then z else v) else a_trial e) → J9 (nI (r + 1)) a_draft a_patternBegin a_left a_ruleCost a_ruleSize a_rulePart a_operator a_firstPart a_secondPart a_stack a_treeBegin a_helperOperator a_helperFirst a_helperSecond a_chainFrom a_openParts a_stateCost a_leafState a_leafAdd a_oneState a_oneAdd a_twoState a_twoAdd tr a_nodeCost a_nodeWays a_cover a_workEntry a_workNode a_nodeState a_nodeBase) :
    wX_useChains_48 post J2 J9 x1 (nI r) (nI z) f_drafted f_patternHeight f_rules f_nodes f_treeHeight f_isLaid f_entries f_stateCount f_isWhole f_tooMany f_trialLeast f_covered f_works f_fromStates f_whereFirst f_whereSecond a_draft a_patternBegin a_left a_ruleCost a_ruleSize a_rulePart a_operator a_firstPart a_secondPart a_stack a_treeBegin a_helperOperator a_helperFirst a_helperSecond a_chainFrom a_openParts a_stateCost a_leafState a_leafAdd a_oneState a_oneAdd a_twoState a_twoAdd a_trial a_nodeCost a_nodeWays a_cover a_workEntry a_workNode a_nodeState a_nodeBase := by
  have e1 : a_left (nI r).toNatClampNeg = nI l := by rw [nI_clamp (by omega)]; exact el
  have i1 : vp_in (nI r) 10 := vp_in_nI hr (by decide)
  have i2 : vp_in (a_left (nI r).toNatClampNeg) 74 := by rw [e1]; exact vp_in_nI (by omega) (by decide)
  have e2 : (a_left (nI r).toNatClampNeg).toNatClampNeg = l := by rw [e1, nI_clamp (by omega)]
  refine ⟨i1, i1, i2, pk_le v z (fun h => ⟨i1, i2, i2, nm_r (by rw [e2]) (nm_r (nI_1 r) (K _ fun e => ?_))⟩) (fun h => ⟨i2, nm_r (by rw [e2]) (nm_r (nI_1 r) (K _ fun e => ?_))⟩) (by rw [e2]; exact ev)⟩
  · rw [if_neg (show ¬ z < v by omega)]
    by_cases y : e = l
    · rw [y, pk_us, if_pos rfl, ev]
    · rw [pk_un y, if_neg y]
  · rw [if_pos (show z < v by omega)]
    by_cases y : e = l
    · rw [y, pk_us, if_pos rfl]
    · rw [pk_un y, if_neg y]
theorem xt_9 (W : tc_wf c) (R : xl_R c a_left a_ruleCost a_ruleSize a_rulePart) (A : xl_A c a_helperOperator a_helperFirst a_helperSecond a_chainFrom) {post : SX → Prop} {J2 : Int32 → (Nat → Int32) → (Nat → Int32) → (Nat → Int32) → (Nat → Int32) → (Nat → Int32) → (Nat → Int32) → (Nat → Int32) → (Nat → Int32) → (Nat → Int32) → (Nat → Int32) → (Nat → Int32) → (Nat → Int32) → (Nat → Int32) → (Nat → Int32) → (Nat → Int32) → (Nat → Int32) → (Nat → Int32) → (Nat → Int32) → (Nat → Int32) → (Nat → Int32) → (Nat → Int32) → (Nat → Int32) → (Nat → Int32) → (Nat → Int32) → (Nat → Int32) → (Nat → Int32) → (Nat → Int32) → (Nat → Int32) → (Nat → Int32) → (Nat → Int32) → (Nat → Int32) → Prop} {x1 : Int32} {t : Nat → Nat} (ht : ∀ e, t e ≤ 2000000)
    (K : ∀ tr : Nat → Int32, xt_T (tc_N c) (tr_ps (tc_lf c) (tc_cf c) (tc_rc c) t (tc_nr c)) tr → J2 (x1 + 1) a_draft a_patternBegin a_left a_ruleCost a_ruleSize a_rulePart a_operator a_firstPart a_secondPart a_stack a_treeBegin a_helperOperator a_helperFirst a_helperSecond a_chainFrom a_openParts a_stateCost a_leafState a_leafAdd a_oneState a_oneAdd a_twoState a_twoAdd tr a_nodeCost a_nodeWays a_cover a_workEntry a_workNode a_nodeState a_nodeBase) :
    ∀ d k, k + d = tc_nr c → ∀ tr : Nat → Int32, xt_T (tc_N c) (tr_ps (tc_lf c) (tc_cf c) (tc_rc c) t k) tr → ∀ n, d < n → wX_useChains_9 post J2 x1 f_drafted f_patternHeight (nI (tc_nr c)) f_nodes f_treeHeight f_isLaid f_entries f_stateCount f_isWhole f_tooMany f_trialLeast f_covered f_works f_fromStates f_whereFirst f_whereSecond n (nI k) a_draft a_patternBegin a_left a_ruleCost a_ruleSize a_rulePart a_operator a_firstPart a_secondPart a_stack a_treeBegin a_helperOperator a_helperFirst a_helperSecond a_chainFrom a_openParts a_stateCost a_leafState a_leafAdd a_oneState a_oneAdd a_twoState a_twoAdd tr a_nodeCost a_nodeWays a_cover a_workEntry a_workNode a_nodeState a_nodeBase := by
  have h10 := W.1
  have hN := tc_N_le W
  intro d
  induction d with
  | zero =>
    intro k hk tr T n hn
    obtain ⟨n, rfl⟩ : ∃ m, n = m + 1 := ⟨n - 1, by omega⟩
    have ek : k = tc_nr c := by omega
    subst ek
    exact pk_le (tc_nr c) (tc_nr c) (fun _ => nm_e (K tr T)) (fun z => by omega)
  | succ d ih =>
    intro k hk tr T n hn
    obtain ⟨n, rfl⟩ : ∃ m, n = m + 1 := ⟨n - 1, by omega⟩
    have hkr : k < tc_nr c := by omega
    obtain ⟨r1, r2, r3, r4⟩ := R k hkr
    obtain ⟨w1, w2, -⟩ := W.2 k hkr
    have hcf := tc_cf_lt W hkr
    have i1 : vp_in (nI k) 10 := vp_in_nI (by omega) (by decide)
    have e1 : a_chainFrom (nI k).toNatClampNeg = nI (tc_cf c k) := by rw [nI_clamp (by omega)]; exact A.2 k hkr
    have i2 : vp_in (a_chainFrom (nI k).toNatClampNeg) 74 := by rw [e1]; exact vp_in_nI (by omega) (by decide)
    have e2 : tr (a_chainFrom (nI k).toNatClampNeg).toNatClampNeg = nI (tr_ps (tc_lf c) (tc_cf c) (tc_rc c) t k (tc_cf c k)) := by
      rw [e1, nI_clamp (by omega)]; exact T _ hcf
    have hb : ∀ e, tr_ps (tc_lf c) (tc_cf c) (tc_rc c) t k e ≤ 2000000 := fun e => Nat.le_trans (tr_ps_le k) (ht e)
    have key : ∀ z, z = tr_nw (tc_cf c) (tc_rc c) (tr_ps (tc_lf c) (tc_cf c) (tc_rc c) t k) k → z ≤ 2000010 →
        wX_useChains_48 post J2 (wX_useChains_9 post J2 x1 f_drafted f_patternHeight (nI (tc_nr c)) f_nodes f_treeHeight f_isLaid f_entries f_stateCount f_isWhole f_tooMany f_trialLeast f_covered f_works f_fromStates f_whereFirst f_whereSecond n) x1 (nI k) (nI z) f_drafted f_patternHeight (nI (tc_nr c)) f_nodes f_treeHeight f_isLaid f_entries f_stateCount f_isWhole f_tooMany f_trialLeast f_covered f_works f_fromStates f_whereFirst f_whereSecond a_draft a_patternBegin a_left a_ruleCost a_ruleSize a_rulePart a_operator a_firstPart a_secondPart a_stack a_treeBegin a_helperOperator a_helperFirst a_helperSecond a_chainFrom a_openParts a_stateCost a_leafState a_leafAdd a_oneState a_oneAdd a_twoState a_twoAdd tr a_nodeCost a_nodeWays a_cover a_workEntry a_workNode a_nodeState a_nodeBase := by
      intro z ez hz
      refine xt_48 (by omega) w1 r1 (T _ (by omega)) (hb _) hz (fun tr' h => ih (k + 1) (by omega) tr' (fun e he => ?_) n (by omega))
      rw [h e, ez]
      show _ = nI (tr_rx (tc_lf c) (tc_cf c) (tc_rc c) (tr_ps (tc_lf c) (tc_cf c) (tc_rc c) t k) k e)
      unfold tr_rx
      by_cases y : e = tc_lf c k
      · rw [if_pos y, if_pos y]
      · rw [if_neg y, if_neg y]; exact T e he
    refine pk_le (tc_nr c) k (fun z => by omega) (fun _ => ⟨i1, i2, nm_r e2 (pk_lt (tr_ps (tc_lf c) (tc_cf c) (tc_rc c) t k (tc_cf c k)) 1000000 (fun z => ⟨i1, ?_⟩) (fun z => ?_) rfl rfl (by have := hb (tc_cf c k); omega))⟩)
    · have e3 : nI (tr_ps (tc_lf c) (tc_cf c) (tc_rc c) t k (tc_cf c k)) + a_ruleCost (nI k).toNatClampNeg = nI (tr_ps (tc_lf c) (tc_cf c) (tc_rc c) t k (tc_cf c k) + tc_rc c k) := by
        rw [nI_clamp (by omega), r2, nI_add]
      rw [e3]
      refine key _ ?_ (by omega)
      unfold tr_nw
      rw [if_pos z]
    · refine key 1000000 ?_ (by omega)
      unfold tr_nw
      rw [if_neg (by omega)]
theorem xt_2 (W : tc_wf c) (R : xl_R c a_left a_ruleCost a_ruleSize a_rulePart) (A : xl_A c a_helperOperator a_helperFirst a_helperSecond a_chainFrom) {post : SX → Prop} {t : Nat → Nat} (ht : ∀ e, t e ≤ 2000000)
    (K : ∀ tr : Nat → Int32, xt_T (tc_N c) (tr_rd (tc_lf c) (tc_cf c) (tc_rc c) (tc_nr c) t 5) tr → post (f_drafted, f_patternHeight, nI (tc_nr c), f_nodes, f_treeHeight, f_isLaid, f_entries, f_stateCount, f_isWhole, f_tooMany, f_trialLeast, f_covered, f_works, f_fromStates, f_whereFirst, f_whereSecond, a_draft, a_patternBegin, a_left, a_ruleCost, a_ruleSize, a_rulePart, a_operator, a_firstPart, a_secondPart, a_stack, a_treeBegin, a_helperOperator, a_helperFirst, a_helperSecond, a_chainFrom, a_openParts, a_stateCost, a_leafState, a_leafAdd, a_oneState, a_oneAdd, a_twoState, a_twoAdd, tr, a_nodeCost, a_nodeWays, a_cover, a_workEntry, a_workNode, a_nodeState, a_nodeBase)) :
    ∀ d k, k + d = 5 → ∀ tr : Nat → Int32, xt_T (tc_N c) (tr_rd (tc_lf c) (tc_cf c) (tc_rc c) (tc_nr c) t k) tr → ∀ n, d < n → wX_useChains_2 post f_drafted f_patternHeight (nI (tc_nr c)) f_nodes f_treeHeight f_isLaid f_entries f_stateCount f_isWhole f_tooMany f_trialLeast f_covered f_works f_fromStates f_whereFirst f_whereSecond n (nI k) a_draft a_patternBegin a_left a_ruleCost a_ruleSize a_rulePart a_operator a_firstPart a_secondPart a_stack a_treeBegin a_helperOperator a_helperFirst a_helperSecond a_chainFrom a_openParts a_stateCost a_leafState a_leafAdd a_oneState a_oneAdd a_twoState a_twoAdd tr a_nodeCost a_nodeWays a_cover a_workEntry a_workNode a_nodeState a_nodeBase := by
  intro d
  induction d with
  | zero =>
    intro k hk tr T n hn
    obtain ⟨n, rfl⟩ : ∃ m, n = m + 1 := ⟨n - 1, by omega⟩
    have ek : k = 5 := by omega
    subst ek
    exact pk_le 5 5 (fun _ => K tr T) (fun z => by omega)
  | succ d ih =>
    intro k hk tr T n hn
    obtain ⟨n, rfl⟩ : ∃ m, n = m + 1 := ⟨n - 1, by omega⟩
    refine pk_le 5 k (fun z => by omega) (fun _ => ⟨tc_nr c + 1, ?_⟩)
    refine xt_9 W R A (t := tr_rd (tc_lf c) (tc_cf c) (tc_rc c) (tc_nr c) t k) (fun e => Nat.le_trans (tr_rd_le k) (ht e)) (fun tr' T' => ?_) (tc_nr c) 0 (by omega) tr T _ (by omega)
    rw [nI_1]
    exact ih (k + 1) (by omega) tr' T' n (by omega)
theorem xt_23 (W : tc_wf c) (R : xl_R c a_left a_ruleCost a_ruleSize a_rulePart) (A : xl_A c a_helperOperator a_helperFirst a_helperSecond a_chainFrom) {post : SX → Prop} {o : Nat} {wa wb : Nat → Nat} (ho : o < 6)
    (hwa : ∀ e, wa e ≤ 1000000) (hwb : ∀ e, wb e ≤ 1000000)
    (hA : 2 ≤ o → ∃ wh, f_whereFirst = nI wh ∧ xt_P f_fromStates a_stateCost a_nodeCost (tc_N c) wh wa) (hB : 4 ≤ o → ∃ wh, f_whereSecond = nI wh ∧ xt_P f_fromStates a_stateCost a_nodeCost (tc_N c) wh wb)
    (K : ∀ tr : Nat → Int32, xt_T (tc_N c) (tc_st c o wa wb) tr → post (f_drafted, f_patternHeight, nI (tc_nr c), f_nodes, f_treeHeight, f_isLaid, nI (tc_N c), f_stateCount, f_isWhole, f_tooMany, f_trialLeast, f_covered, f_works, f_fromStates, f_whereFirst, f_whereSecond, a_draft, a_patternBegin, a_left, a_ruleCost, a_ruleSize, a_rulePart, a_operator, a_firstPart, a_secondPart, a_stack, a_treeBegin, a_helperOperator, a_helperFirst, a_helperSecond, a_chainFrom, a_openParts, a_stateCost, a_leafState, a_leafAdd, a_oneState, a_oneAdd, a_twoState, a_twoAdd, tr, a_nodeCost, a_nodeWays, a_cover, a_workEntry, a_workNode, a_nodeState, a_nodeBase)) :
    ∀ d k, k + d = tc_N c → 4 ≤ k → ∀ tr : Nat → Int32, xt_T k (tc_t0 c o wa wb) tr → ∀ n, d < n → wX_tryOperator_23 post (nI o) f_drafted f_patternHeight (nI (tc_nr c)) f_nodes f_treeHeight f_isLaid (nI (tc_N c)) f_stateCount f_isWhole f_tooMany f_trialLeast f_covered f_works f_fromStates f_whereFirst f_whereSecond n (nI k) a_draft a_patternBegin a_left a_ruleCost a_ruleSize a_rulePart a_operator a_firstPart a_secondPart a_stack a_treeBegin a_helperOperator a_helperFirst a_helperSecond a_chainFrom a_openParts a_stateCost a_leafState a_leafAdd a_oneState a_oneAdd a_twoState a_twoAdd tr a_nodeCost a_nodeWays a_cover a_workEntry a_workNode a_nodeState a_nodeBase := by
  have hN := tc_N_le W
  intro d
  induction d with
  | zero =>
    intro k hk h4 tr T n hn
    obtain ⟨n, rfl⟩ : ∃ m, n = m + 1 := ⟨n - 1, by omega⟩
    have ek : k = tc_N c := by omega
    subst ek
    exact pk_le (tc_N c) (tc_N c) (fun _ => ⟨6, xt_2 W R A (tc_t0_le o wa wb) K 5 0 rfl tr T 6 (by omega)⟩) (fun z => by omega)
  | succ d ih =>
    intro k hk h4 tr T n hn
    obtain ⟨n, rfl⟩ : ∃ m, n = m + 1 := ⟨n - 1, by omega⟩
    obtain ⟨p, hp, ep⟩ := tc_sur (c := c) (e := k) h4 (by omega)
    refine pk_le (tc_N c) k (fun z => by omega) (fun _ => ?_)
    have hh := xt_help W A (f_drafted := f_drafted) (f_patternHeight := f_patternHeight) (f_rules := nI (tc_nr c)) (f_nodes := f_nodes) (f_treeHeight := f_treeHeight) (f_isLaid := f_isLaid) (f_entries := nI (tc_N c)) (f_stateCount := f_stateCount) (f_isWhole := f_isWhole) (f_tooMany := f_tooMany) (f_trialLeast := f_trialLeast) (f_covered := f_covered) (f_works := f_works)
      (a_draft := a_draft) (a_patternBegin := a_patternBegin) (a_left := a_left) (a_ruleCost := a_ruleCost) (a_ruleSize := a_ruleSize) (a_rulePart := a_rulePart) (a_operator := a_operator) (a_firstPart := a_firstPart) (a_secondPart := a_secondPart) (a_stack := a_stack) (a_treeBegin := a_treeBegin) (a_openParts := a_openParts) (a_leafState := a_leafState) (a_leafAdd := a_leafAdd) (a_oneState := a_oneState) (a_oneAdd := a_oneAdd) (a_twoState := a_twoState) (a_twoAdd := a_twoAdd) (a_trial := tr) (a_nodeWays := a_nodeWays) (a_cover := a_cover) (a_workEntry := a_workEntry) (a_workNode := a_workNode) (a_nodeState := a_nodeState) (a_nodeBase := a_nodeBase)
      (post := fun r => vp_in (nI k) 74 ∧ ∀ t, t = upd tr (nI k).toNatClampNeg r → ∀ x, x = nI k + 1 → wX_tryOperator_23 post (nI o) f_drafted f_patternHeight (nI (tc_nr c)) f_nodes f_treeHeight f_isLaid (nI (tc_N c)) f_stateCount f_isWhole f_tooMany f_trialLeast f_covered f_works f_fromStates f_whereFirst f_whereSecond n x a_draft a_patternBegin a_left a_ruleCost a_ruleSize a_rulePart a_operator a_firstPart a_secondPart a_stack a_treeBegin a_helperOperator a_helperFirst a_helperSecond a_chainFrom a_openParts a_stateCost a_leafState a_leafAdd a_oneState a_oneAdd a_twoState a_twoAdd t a_nodeCost a_nodeWays a_cover a_workEntry a_workNode a_nodeState a_nodeBase) ho hp hwa hwb hA hB
    rw [ep] at hh
    refine hh ⟨vp_in_nI (by omega) (by decide), nm_r (tc_upc (by omega) rfl) (nm_r (nI_1 k) (ih (k + 1) (by omega) (by omega) _ (fun e he => ?_) n (by omega)))⟩
    by_cases z : e = k
    · rw [z, pk_us, ← ep, tc_t0_h W o wa wb hp]
    · rw [pk_un z]; exact T e (by omega)
theorem xt_02 (W : tc_wf c) {post : SX → Prop} {o : Nat} {wa wb : Nat → Nat}
    (K : ∀ tr : Nat → Int32, xt_T 4 (tc_t0 c o wa wb) tr → ∃ n, wX_tryOperator_23 post (nI o) f_drafted f_patternHeight f_rules f_nodes f_treeHeight f_isLaid f_entries f_stateCount f_isWhole f_tooMany f_trialLeast f_covered f_works f_fromStates f_whereFirst f_whereSecond n (nI 4) a_draft a_patternBegin a_left a_ruleCost a_ruleSize a_rulePart a_operator a_firstPart a_secondPart a_stack a_treeBegin a_helperOperator a_helperFirst a_helperSecond a_chainFrom a_openParts a_stateCost a_leafState a_leafAdd a_oneState a_oneAdd a_twoState a_twoAdd tr a_nodeCost a_nodeWays a_cover a_workEntry a_workNode a_nodeState a_nodeBase) :
    ∀ d k, k + d = 4 → ∀ tr : Nat → Int32, xt_T k (tc_t0 c o wa wb) tr → ∀ n, d < n → wX_tryOperator_2 post (nI o) f_drafted f_patternHeight f_rules f_nodes f_treeHeight f_isLaid f_entries f_stateCount f_isWhole f_tooMany f_trialLeast f_covered f_works f_fromStates f_whereFirst f_whereSecond n (nI k) a_draft a_patternBegin a_left a_ruleCost a_ruleSize a_rulePart a_operator a_firstPart a_secondPart a_stack a_treeBegin a_helperOperator a_helperFirst a_helperSecond a_chainFrom a_openParts a_stateCost a_leafState a_leafAdd a_oneState a_oneAdd a_twoState a_twoAdd tr a_nodeCost a_nodeWays a_cover a_workEntry a_workNode a_nodeState a_nodeBase := by
  intro d
  induction d with
  | zero =>
    intro k hk tr T n hn
    obtain ⟨n, rfl⟩ : ∃ m, n = m + 1 := ⟨n - 1, by omega⟩
    have ek : k = 4 := by omega
    subst ek
    exact pk_le 4 4 (fun _ => K tr T) (fun z => by omega)
  | succ d ih =>
    intro k hk tr T n hn
    obtain ⟨n, rfl⟩ : ∃ m, n = m + 1 := ⟨n - 1, by omega⟩
    refine pk_le 4 k (fun z => by omega) (fun _ => ⟨vp_in_nI (by omega) (by decide), nm_r (tc_upc (by omega) rfl) (nm_r (nI_1 k) (ih (k + 1) (by omega) _ (fun e he => ?_) n (by omega)))⟩)
    by_cases z : e = k
    · rw [z, pk_us, tc_t0_g o wa wb (by omega)]; rfl
    · rw [pk_un z]; exact T e (by omega)
theorem xt_try (W : tc_wf c) (R : xl_R c a_left a_ruleCost a_ruleSize a_rulePart) (A : xl_A c a_helperOperator a_helperFirst a_helperSecond a_chainFrom) {post : SX → Prop} {o : Nat} {wa wb : Nat → Nat} (ho : o < 6)
    (hwa : ∀ e, wa e ≤ 1000000) (hwb : ∀ e, wb e ≤ 1000000)
    (hA : 2 ≤ o → ∃ wh, f_whereFirst = nI wh ∧ xt_P f_fromStates a_stateCost a_nodeCost (tc_N c) wh wa) (hB : 4 ≤ o → ∃ wh, f_whereSecond = nI wh ∧ xt_P f_fromStates a_stateCost a_nodeCost (tc_N c) wh wb)
    (K : ∀ tr : Nat → Int32, xt_T (tc_N c) (tc_st c o wa wb) tr → post (f_drafted, f_patternHeight, nI (tc_nr c), f_nodes, f_treeHeight, f_isLaid, nI (tc_N c), f_stateCount, f_isWhole, f_tooMany, f_trialLeast, f_covered, f_works, f_fromStates, f_whereFirst, f_whereSecond, a_draft, a_patternBegin, a_left, a_ruleCost, a_ruleSize, a_rulePart, a_operator, a_firstPart, a_secondPart, a_stack, a_treeBegin, a_helperOperator, a_helperFirst, a_helperSecond, a_chainFrom, a_openParts, a_stateCost, a_leafState, a_leafAdd, a_oneState, a_oneAdd, a_twoState, a_twoAdd, tr, a_nodeCost, a_nodeWays, a_cover, a_workEntry, a_workNode, a_nodeState, a_nodeBase)) :
    wpX_tryOperator post (f_drafted, f_patternHeight, nI (tc_nr c), f_nodes, f_treeHeight, f_isLaid, nI (tc_N c), f_stateCount, f_isWhole, f_tooMany, f_trialLeast, f_covered, f_works, f_fromStates, f_whereFirst, f_whereSecond, a_draft, a_patternBegin, a_left, a_ruleCost, a_ruleSize, a_rulePart, a_operator, a_firstPart, a_secondPart, a_stack, a_treeBegin, a_helperOperator, a_helperFirst, a_helperSecond, a_chainFrom, a_openParts, a_stateCost, a_leafState, a_leafAdd, a_oneState, a_oneAdd, a_twoState, a_twoAdd, a_trial, a_nodeCost, a_nodeWays, a_cover, a_workEntry, a_workNode, a_nodeState, a_nodeBase) (nI o) :=
  ⟨5, xt_02 W (fun tr T => ⟨tc_N c + 1, xt_23 W R A ho hwa hwb hA hB K (tc_N c - 4) 4 (by have := tc_N_le W; omega) (by omega) tr T _ (by omega)⟩) 4 0 rfl a_trial (fun e he => absurd he (Nat.not_lt_zero _)) 5 (by omega)⟩
end
end
section
/-! Y: workOut -/
section
variable {g_noted g_depth g_rules g_planted g_trees g_stateCount g_known g_listed : Int32} {b_marks b_sizes b_lefts b_costs b_lengths b_operators b_spans b_least b_ways b_tasks b_list : Nat → Int32} {c : tc_C}
def yw_U (c : tc_C) (marks sizes lefts costs lengths : Nat → Int32) : Prop := ∀ r, r < tc_nr c →
  lefts r = nI (tc_lf c r) ∧ costs r = nI (tc_rc c r) ∧ lengths r = nI (tc_rn c r) ∧ ∀ k, k < tc_rn c r → marks (7 * r + k) = nI (tc_mk c (7 * r + k)) ∧ sizes (7 * r + k) = nI (tc_sz c (7 * r + k))
def yw_R (c : tc_C) (L : Nat → Int32) (n : Nat) (w : Nat → Nat) : Prop := (∀ g, g < 4 → L (74 * n + g) = nI (w g)) ∧ ∀ p, tc_us c p → L (74 * n + 4 + p) = nI (w (tc_en c p))
def yw_G (n : Nat) (t : Nat → Nat) (L : Nat → Int32) : Prop := ∀ g, g < 4 → L (74 * n + g) = nI (t g)
def yw_E (c : tc_C) (n r : Nat) (t : Nat → Nat) (L : Nat → Int32) : Prop := ∀ k, k < tc_rn c r → L (74 * n + 4 + 7 * r + k) = nI (tc_cl (t (tc_en c (7 * r + k))))
theorem yw_R_fr (W : tc_wf c) {L L' : Nat → Int32} {n : Nat} {w : Nat → Nat} (h : yw_R c L n w) (hf : ∀ j, 74 * n ≤ j → j < 74 * n + 74 → L' j = L j) : yw_R c L' n w := by
  refine ⟨fun g hg => ?_, fun p hp => ?_⟩
  · rw [hf _ (by omega) (by omega)]; exact h.1 g hg
  · have := (tc_us_lt W hp).2
    rw [hf _ (by omega) (by omega)]; exact h.2 p hp
theorem yw_7 (a b : Nat) : (7 : Int32) * nI a + nI b = nI (7 * a + b) := by rw [show (7 : Int32) = nI 7 from rfl, pk_mul, nI_add]
theorem yw_l (n a : Nat) {x : Int32} (h : x = nI n) : x + nI a = nI (n + a) := by rw [h, nI_add]
theorem yw_pc (W : tc_wf c) (U : yw_U c b_marks b_sizes b_lefts b_costs b_lengths) {post : Int32 → Prop} {n o x y r i : Nat} {t wa wb : Nat → Nat} (hr : r < tc_nr c) (hi : i < tc_rn c r) (hn : n < 46) (ho : o < 6)
    (hwa : ∀ e, wa e ≤ 1000000) (hwb : ∀ e, wb e ≤ 1000000) (hx : 2 ≤ o → x < 46 ∧ yw_R c b_least x wa) (hy : 4 ≤ o → y < 46 ∧ yw_R c b_least y wb)
    (G : yw_G n t b_least) (ht : ∀ g, g < 4 → t g ≤ 1000000) (hh : ∀ p, tc_op c p → t (tc_en c p) = tc_hp c o wa wb p)
    (K : ∀ v, v ≤ 2000000 → tc_cl v = tc_cl (t (tc_en c (7 * r + i))) → post (nI v)) : wpY_patternCost post (g_noted, g_depth, g_rules, g_planted, g_trees, g_stateCount, g_known, g_listed, b_marks, b_sizes, b_lefts, b_costs, b_lengths, b_operators, b_spans, b_least, b_ways, b_tasks, b_list) (nI n) (nI o) (nI x) (nI y) (nI r) (nI i) := by
  have h10 := W.1
  obtain ⟨u1, u2, u3, u4⟩ := U r hr
  have h7 := (W.2 r hr).2.2.2.1
  have hus := tc_us_of hr hi W
  obtain ⟨l1, l2, l3, l4, l5, -⟩ := tc_loc W hus
  obtain ⟨p, ep⟩ : ∃ p, p = 7 * r + i := ⟨_, rfl⟩
  have hp : p < 70 := by omega
  have e1 : (7 : Int32) * nI r + nI i = nI p := by rw [yw_7, ep]
  have e2 : b_marks (7 * nI r + nI i).toNatClampNeg = nI (tc_mk c p) := by rw [e1, nI_clamp (by omega), ep]; exact (u4 i hi).1
  have e3 : (4 : Int32) + 7 * nI r + nI i - 1 = nI (3 + p) := by
    rw [show (4 : Int32) = nI 4 from rfl, show (7 : Int32) = nI 7 from rfl, pk_mul, nI_add, nI_add, ep]
    exact pk_sub (a := 4 + 7 * r + i) (b := 1) (by omega) |>.trans (congrArg nI (by omega))
  rw [← ep] at l1 l2 l3 l4 l5 K hus
  refine ⟨pk_in p 77 (by omega) e1, nm_r e2 (pk_le (tc_mk c p) 9 (fun h9 => ?_) (fun h9 => ?_) rfl rfl (by omega))⟩
  · have hop : tc_op c p := ⟨hus, by omega⟩
    have hv := hh p hop
    unfold tc_hp at hv
    refine pk_eq (tc_mk c p) o (fun e => nm_r e3 (pk_le 2 o (fun h2 => pk_le 4 o (fun h4 => ?_) (fun h4 => ?_)) (fun h2 => ?_))) (fun e => ?_) rfl rfl (by omega) (by omega)
    · -- two parts
      rw [if_pos e] at hv
      rw [show tc_ha c o wa p = wa (tc_en c (tc_fp c p)) from if_pos h2, show tc_hb c o wb p = wb (tc_en c (p - 1)) from if_pos h4] at hv
      unfold tc_sm at hv
      obtain ⟨x1, x2⟩ := hx h2
      obtain ⟨y1, y2⟩ := hy h4
      obtain ⟨m1, m2⟩ := l5 (by omega) hop.2
      obtain ⟨m3, m4⟩ := l4 (by omega) hop.2
      have f1 : nI p - 1 = nI (p - 1) := pk_sub (a := p) (b := 1) m3
      have f2 : b_sizes ((7 : Int32) * nI r + nI i - 1).toNatClampNeg = nI (tc_sz c (p - 1)) := by
        rw [e1, f1, nI_clamp (by omega)]
        have := (U ((p - 1) / 7) m4.1).2.2.2 ((p - 1) % 7) m4.2
        rw [show 7 * ((p - 1) / 7) + (p - 1) % 7 = p - 1 by omega] at this
        exact this.2
      have f3 : nI (3 + p) - nI (tc_sz c (p - 1)) = nI (4 + (p - 1 - tc_sz c (p - 1))) := by
        rw [pk_sub (by omega)]; exact congrArg nI (by omega)
      have g1 := x2.2 _ m2
      have g2 := y2.2 _ m4
      have f4 : (74 : Int32) * nI x + nI (4 + (p - 1 - tc_sz c (p - 1))) = nI (74 * x + 4 + (p - 1 - tc_sz c (p - 1))) := by rw [xt_74]; exact congrArg nI (by omega)
      have f5 : (74 : Int32) * nI y + nI (3 + p) = nI (74 * y + 4 + (p - 1)) := by rw [xt_74]; exact congrArg nI (by omega)
      refine ⟨by rw [e1, f1]; exact vp_in_nI (by omega) (by decide), nm_r (e' := nI (4 + (p - 1 - tc_sz c (p - 1)))) (by rw [f2, f3]) ⟨pk_in (74 * x + 4 + (p - 1 - tc_sz c (p - 1))) 3404 (by omega) f4, pk_in (74 * y + 4 + (p - 1)) 3404 (by omega) f5, ?_⟩⟩
      rw [f4, f5, nI_clamp (by omega), nI_clamp (by omega), g1, g2, nI_add]
      have b1 := hwa (tc_en c (p - 1 - tc_sz c (p - 1)))
      have b2 := hwb (tc_en c (p - 1))
      have efp : tc_fp c p = p - 1 - tc_sz c (p - 1) := if_neg (by omega)
      rw [efp] at hv
      refine K _ (by omega) ?_
      rw [hv]
      unfold tc_cl
      repeat' split
      all_goals omega
    · -- one part
      rw [if_pos e] at hv
      rw [show tc_ha c o wa p = wa (tc_en c (tc_fp c p)) from if_pos h2, show tc_hb c o wb p = 0 from if_neg (by omega)] at hv
      unfold tc_sm at hv
      obtain ⟨x1, x2⟩ := hx h2
      obtain ⟨m3, m4⟩ := l4 (by omega) hop.2
      have g1 := x2.2 _ m4
      have f5 : (74 : Int32) * nI x + nI (3 + p) = nI (74 * x + 4 + (p - 1)) := by rw [xt_74]; exact congrArg nI (by omega)
      refine ⟨pk_in (74 * x + 4 + (p - 1)) 3404 (by omega) f5, ?_⟩
      rw [f5, nI_clamp (by omega), g1]
      have b1 := hwa (tc_en c (p - 1))
      have efp : tc_fp c p = p - 1 := if_pos (by omega)
      rw [efp] at hv
      refine K _ (by omega) ?_
      rw [hv]
      unfold tc_cl
      repeat' split
      all_goals omega
    · -- no part
      rw [if_pos e] at hv
      rw [show tc_ha c o wa p = 0 from if_neg (by omega), show tc_hb c o wb p = 0 from if_neg (by omega)] at hv
      exact K 0 (by omega) (by rw [hv]; rfl)
    · rw [if_neg e] at hv
      exact K 1000000 (by omega) (by rw [hv])
  · have e4 : (74 : Int32) * nI n + nI (tc_mk c p) - 10 = nI (74 * n + (tc_mk c p - 10)) := by
      rw [xt_74]
      exact pk_sub (a := 74 * n + tc_mk c p) (b := 10) (by omega) |>.trans (congrArg nI (by omega))
    have hg : tc_mk c p - 10 < 4 := by omega
    refine ⟨pk_in (74 * n + (tc_mk c p - 10)) 3404 (by omega) e4, ?_⟩
    rw [e4, nI_clamp (by omega), G _ hg]
    refine K _ (by have := ht _ hg; omega) ?_
    rw [tc_en_go (by omega)]
def yw_fr (n r : Nat) (L0 L : Nat → Int32) : Prop := ∀ j, (j < 74 * n ∨ 74 * n + 4 ≤ j) → (j < 74 * n + 4 + 7 * r ∨ 74 * n + 4 + 7 * r + 7 ≤ j) → L j = L0 j
def yw_X (c : tc_C) (n o x y : Nat) (wa wb : Nat → Nat) (L : Nat → Int32) : Prop := (2 ≤ o → x < 46 ∧ x ≠ n ∧ yw_R c L x wa) ∧ (4 ≤ o → y < 46 ∧ y ≠ n ∧ yw_R c L y wb)
theorem yw_X_fr (W : tc_wf c) {n o x y : Nat} {wa wb : Nat → Nat} {L L' : Nat → Int32} (h : yw_X c n o x y wa wb L) (hf : ∀ j, (j < 74 * n ∨ 74 * n + 74 ≤ j) → L' j = L j) : yw_X c n o x y wa wb L' := by
  refine ⟨fun ho => ?_, fun ho => ?_⟩
  · obtain ⟨a, b, d⟩ := h.1 ho
    exact ⟨a, b, yw_R_fr W d (fun j h1 h2 => hf j (by omega))⟩
  · obtain ⟨a, b, d⟩ := h.2 ho
    exact ⟨a, b, yw_R_fr W d (fun j h1 h2 => hf j (by omega))⟩
theorem yw_rule (W : tc_wf c) (U : yw_U c b_marks b_sizes b_lefts b_costs b_lengths) {post : SY → Prop} {n o x y r : Nat} {t wa wb : Nat → Nat} (hr : r < tc_nr c) (hn : n < 46) (ho : o < 6)
    (hwa : ∀ e, wa e ≤ 1000000) (hwb : ∀ e, wb e ≤ 1000000) (ht : ∀ g, g < 4 → t g ≤ 1000000) (hh : ∀ p, tc_op c p → t (tc_en c p) = tc_hp c o wa wb p)
    (K : ∀ L : Nat → Int32, yw_G n (tr_rx (tc_lf c) (tc_cf c) (tc_rc c) t r) L → yw_E c n r t L → yw_fr n r b_least L → post (g_noted, g_depth, g_rules, g_planted, g_trees, g_stateCount, g_known, g_listed, b_marks, b_sizes, b_lefts, b_costs, b_lengths, b_operators, b_spans, L, b_ways, b_tasks, b_list)) :
    ∀ d i, i + d = tc_rn c r → ∀ (L : Nat → Int32) (w : Int32), yw_X c n o x y wa wb L → yw_G n t L → (∀ k, k < i → L (74 * n + 4 + 7 * r + k) = nI (tc_cl (t (tc_en c (7 * r + k))))) → yw_fr n r b_least L →
      (0 < i → w = nI (tc_cl (t (tc_en c (7 * r + i - 1))))) → ∀ f, d < f → wY_workRule_7 post (nI n) (nI o) (nI x) (nI y) (nI r) g_noted g_depth g_rules g_planted g_trees g_stateCount g_known g_listed f w (nI i) b_marks b_sizes b_lefts b_costs b_lengths b_operators b_spans L b_ways b_tasks b_list := by
  have h10 := W.1
  obtain ⟨u1, u2, u3, u4⟩ := U r hr
  obtain ⟨w1, w2, w3, w4, -⟩ := W.2 r hr
  have i1 : vp_in (nI r) 10 := vp_in_nI (by omega) (by decide)
  intro d
  induction d with
  | zero =>
    intro i hi L w X G E F hw f hf
    obtain ⟨f, rfl⟩ : ∃ m, f = m + 1 := ⟨f - 1, by omega⟩
    have ei : i = tc_rn c r := by omega
    subst ei
    have hw := hw (by omega)
    have ecf : tc_en c (7 * r + tc_rn c r - 1) = tc_cf c r := rfl
    rw [ecf] at hw
    have hc := tc_cl_le (t (tc_cf c r))
    have htl := ht _ w1
    have e1 : w + b_costs (nI r).toNatClampNeg = nI (tc_cl (t (tc_cf c r)) + tc_rc c r) := by rw [hw, nI_clamp (by omega), u2, nI_add]
    have e2 : (74 : Int32) * nI n + b_lefts (nI r).toNatClampNeg = nI (74 * n + tc_lf c r) := by rw [nI_clamp (by omega), u1, xt_74]
    have i2 : vp_in (nI (74 * n + tc_lf c r)) 3404 := vp_in_nI (by omega) (by decide)
    have hnw : tr_nw (tc_cf c) (tc_rc c) t r = if t (tc_cf c r) < 1000000 then t (tc_cf c r) + tc_rc c r else 1000000 := rfl
    have fin : ∀ v : Int32, v = nI (tr_rx (tc_lf c) (tc_cf c) (tc_rc c) t r (tc_lf c r)) → post (g_noted, g_depth, g_rules, g_planted, g_trees, g_stateCount, g_known, g_listed, b_marks, b_sizes, b_lefts, b_costs, b_lengths, b_operators, b_spans, upd L (74 * n + tc_lf c r) v, b_ways, b_tasks, b_list) := by
      intro v hv
      refine K _ (fun g hg => ?_) (fun k hk => ?_) (fun j h1 h2 => ?_)
      · by_cases z : g = tc_lf c r
        · rw [z, pk_us, hv]
        · rw [pk_un (by omega), tr_rx_ne z]; exact G g hg
      · rw [pk_un (by omega)]; exact E k hk
      · rw [pk_un (by omega)]; exact F j h1 h2
    refine ⟨i1, pk_le (tc_rn c r) (tc_rn c r) (fun _ => ⟨i1, nm_r e1 ⟨i1, nm_r e2 ⟨i2, pk_le (t (tc_lf c r)) (tc_cl (t (tc_cf c r)) + tc_rc c r) (fun h => ⟨i2, i2, nm_r (tc_upc (by omega) (by rw [nI_clamp (by omega)])) (fin _ ?_)⟩) (fun h => ⟨i2, nm_r (tc_upc (by omega) rfl) (fin _ ?_)⟩) (by rw [nI_clamp (by omega)]; exact G _ w1)⟩⟩⟩) (fun z => by omega) (by rw [nI_clamp (by omega)]; exact u3)⟩
    · rw [G _ w1, tr_rx_id]
      unfold tc_cl at h
      rw [hnw]
      split at h <;> split <;> omega
    · rw [tr_rx_lt]
      · unfold tc_cl at h ⊢
        rw [hnw]
        split at h
        · rename_i q
          rw [if_pos q, if_pos q]
        · omega
      · unfold tc_cl at h
        rw [hnw]
        split at h <;> split <;> omega
  | succ d ih =>
    intro i hi L w X G E F hw f hf
    obtain ⟨f, rfl⟩ : ∃ m, f = m + 1 := ⟨f - 1, by omega⟩
    refine ⟨i1, pk_le (tc_rn c r) i (fun z => by omega) (fun _ => ?_) (by rw [nI_clamp (by omega)]; exact u3)⟩
    have e1 : (74 : Int32) * nI n + 4 + 7 * nI r + nI i = nI (74 * n + 4 + 7 * r + i) := by
      rw [show (74 : Int32) = nI 74 from rfl, show (4 : Int32) = nI 4 from rfl, show (7 : Int32) = nI 7 from rfl, pk_mul, pk_mul, nI_add, nI_add, nI_add]
    have key : ∀ z, z = tc_cl (t (tc_en c (7 * r + i))) → wY_workRule_48 post (wY_workRule_7 post (nI n) (nI o) (nI x) (nI y) (nI r) g_noted g_depth g_rules g_planted g_trees g_stateCount g_known g_listed f) (nI n) (nI o) (nI x) (nI y) (nI r) (nI i) (nI z) g_noted g_depth g_rules g_planted g_trees g_stateCount g_known g_listed b_marks b_sizes b_lefts b_costs b_lengths b_operators b_spans L b_ways b_tasks b_list := by
      intro z ez
      refine ⟨pk_in (74 * n + 4 + 7 * r + i) 3404 (by omega) e1, nm_r (e' := upd L (74 * n + 4 + 7 * r + i) (nI z)) (by rw [e1, nI_clamp (by omega)]) (nm_r (nI_1 i) ?_)⟩
      refine ih (i + 1) (by omega) (upd L (74 * n + 4 + 7 * r + i) (nI z)) _ (yw_X_fr W X (fun j hj => pk_un (by omega))) (fun g hg => ?_) (fun k hk => ?_) (fun j h1 h2 => ?_) (fun _ => by rw [ez]; rfl) f (by omega)
      · rw [pk_un (by omega)]; exact G g hg
      · by_cases q : k = i
        · rw [q, pk_us, ez]
        · rw [pk_un (by omega)]; exact E k (by omega)
      · rw [pk_un (by omega)]; exact F j h1 h2
    refine yw_pc W U hr (show i < tc_rn c r by omega) hn ho hwa hwb (fun h => ⟨(X.1 h).1, (X.1 h).2.2⟩) (fun h => ⟨(X.2 h).1, (X.2 h).2.2⟩) G ht hh (fun v hv ev => pk_le v 1000000 (fun h => ?_) (fun h => ?_))
    · refine key v ?_
      rw [← ev]
      unfold tc_cl
      split <;> omega
    · refine key 1000000 ?_
      rw [← ev]
      unfold tc_cl
      rw [if_neg (by omega)]
theorem yw_41 (W : tc_wf c) (U : yw_U c b_marks b_sizes b_lefts b_costs b_lengths) {post : SY → Prop} {J : Int32 → Int32 → Int32 → Int32 → Int32 → Int32 → Int32 → Int32 → Int32 → (Nat → Int32) → (Nat → Int32) → (Nat → Int32) → (Nat → Int32) → (Nat → Int32) → (Nat → Int32) → (Nat → Int32) → (Nat → Int32) → (Nat → Int32) → (Nat → Int32) → (Nat → Int32) → Prop} {x5 : Int32} {n o x y : Nat} {t wa wb : Nat → Nat} (hn : n < 46) (ho : o < 6)
    (hwa : ∀ e, wa e ≤ 1000000) (hwb : ∀ e, wb e ≤ 1000000) (ht : ∀ g, g < 4 → t g ≤ 1000000) (hh : ∀ p, tc_op c p → t (tc_en c p) = tc_hp c o wa wb p)
    (K : ∀ L : Nat → Int32, yw_X c n o x y wa wb L → yw_G n (tr_ps (tc_lf c) (tc_cf c) (tc_rc c) t (tc_nr c)) L → (∀ r, r < tc_nr c → yw_E c n r (tr_ps (tc_lf c) (tc_cf c) (tc_rc c) t r) L) → (∀ j, (j < 74 * n ∨ 74 * n + 74 ≤ j) → L j = b_least j) → J (x5 + 1) g_noted g_depth (nI (tc_nr c)) g_planted g_trees g_stateCount g_known g_listed b_marks b_sizes b_lefts b_costs b_lengths b_operators b_spans L b_ways b_tasks b_list) :
    ∀ d k, k + d = tc_nr c → ∀ L : Nat → Int32, yw_X c n o x y wa wb L → yw_G n (tr_ps (tc_lf c) (tc_cf c) (tc_rc c) t k) L → (∀ r, r < k → yw_E c n r (tr_ps (tc_lf c) (tc_cf c) (tc_rc c) t r) L) → (∀ j, (j < 74 * n ∨ 74 * n + 74 ≤ j) → L j = b_least j) →
      ∀ f, d < f → wY_workOut_41 post J (nI n) (nI o) (nI x) (nI y) x5 f (nI k) g_noted g_depth (nI (tc_nr c)) g_planted g_trees g_stateCount g_known g_listed b_marks b_sizes b_lefts b_costs b_lengths b_operators b_spans L b_ways b_tasks b_list := by
  have h10 := W.1
  have hl : ∀ r, r < tc_nr c → tc_lf c r < 4 := fun r hr => (W.2 r hr).1
  intro d
  induction d with
  | zero =>
    intro k hk L X G E F f hf
    obtain ⟨f, rfl⟩ : ∃ m, f = m + 1 := ⟨f - 1, by omega⟩
    have ek : k = tc_nr c := by omega
    subst ek
    exact pk_le (tc_nr c) (tc_nr c) (fun _ => nm_e (K L X G E F)) (fun z => by omega)
  | succ d ih =>
    intro k hk L X G E F f hf
    obtain ⟨f, rfl⟩ : ∃ m, f = m + 1 := ⟨f - 1, by omega⟩
    refine pk_le (tc_nr c) k (fun z => by omega) (fun _ => ⟨8, ?_⟩)
    have h7 := (W.2 k (by omega)).2.2.2.1
    refine yw_rule W U (t := tr_ps (tc_lf c) (tc_cf c) (tc_rc c) t k) (show k < tc_nr c by omega) hn ho hwa hwb (fun g hg => Nat.le_trans (tr_ps_le k) (ht g hg)) (fun p hp => ?_) (fun L' G' E' F' => nm_r (nI_1 k) ?_) (tc_rn c k) 0 (by omega) L 1000000 X G (fun q hq => absurd hq (Nat.not_lt_zero _)) (fun j _ _ => rfl) (fun z => absurd z (Nat.lt_irrefl _)) 8 (by omega)
    · rw [tr_ps_hi hl (tc_en_op4 hp) k (by omega)]; exact hh p hp
    · have Fr : ∀ j, (j < 74 * n ∨ 74 * n + 74 ≤ j) → L' j = L j := fun j hj => F' j (by omega) (by omega)
      refine ih (k + 1) (by omega) L' (yw_X_fr W X Fr) G' (fun r hr q hq => ?_) (fun j hj => (Fr j hj).trans (F j hj)) f (by omega)
      by_cases z : r = k
      · subst z
        exact E' q hq
      · have := (W.2 r (by omega)).2.2.2.1
        rw [F' _ (by omega) (by omega)]
        exact E r (by omega) q hq
theorem yw_32 (W : tc_wf c) (U : yw_U c b_marks b_sizes b_lefts b_costs b_lengths) {post : SY → Prop} {n o x y : Nat} {t wa wb : Nat → Nat} (hn : n < 46) (ho : o < 6)
    (hwa : ∀ e, wa e ≤ 1000000) (hwb : ∀ e, wb e ≤ 1000000) (ht : ∀ g, g < 4 → t g ≤ 1000000) (hh : ∀ p, tc_op c p → t (tc_en c p) = tc_hp c o wa wb p)
    (K : ∀ L : Nat → Int32, yw_G n (tr_rd (tc_lf c) (tc_cf c) (tc_rc c) (tc_nr c) t 5) L → (∀ r, r < tc_nr c → yw_E c n r (tr_rd (tc_lf c) (tc_cf c) (tc_rc c) (tc_nr c) t 5) L) → (∀ j, (j < 74 * n ∨ 74 * n + 74 ≤ j) → L j = b_least j) → post (g_noted, g_depth, nI (tc_nr c), g_planted, g_trees, g_stateCount, g_known, g_listed, b_marks, b_sizes, b_lefts, b_costs, b_lengths, b_operators, b_spans, L, b_ways, b_tasks, b_list)) :
    ∀ d k, k + d = 5 → ∀ L : Nat → Int32, yw_X c n o x y wa wb L → yw_G n (tr_rd (tc_lf c) (tc_cf c) (tc_rc c) (tc_nr c) t k) L → (k = 5 → ∀ r, r < tc_nr c → yw_E c n r (tr_rd (tc_lf c) (tc_cf c) (tc_rc c) (tc_nr c) t 5) L) → (∀ j, (j < 74 * n ∨ 74 * n + 74 ≤ j) → L j = b_least j) →
      ∀ f, d < f → wY_workOut_32 post (nI n) (nI o) (nI x) (nI y) f (nI k) g_noted g_depth (nI (tc_nr c)) g_planted g_trees g_stateCount g_known g_listed b_marks b_sizes b_lefts b_costs b_lengths b_operators b_spans L b_ways b_tasks b_list := by
  have h10 := W.1
  have hl : ∀ r, r < tc_nr c → tc_lf c r < 4 := fun r hr => (W.2 r hr).1
  intro d
  induction d with
  | zero =>
    intro k hk L X G E F f hf
    obtain ⟨f, rfl⟩ : ∃ m, f = m + 1 := ⟨f - 1, by omega⟩
    have ek : k = 5 := by omega
    subst ek
    exact pk_le 5 5 (fun _ => K L G (E rfl) F) (fun z => by omega)
  | succ d ih =>
    intro k hk L X G E F f hf
    obtain ⟨f, rfl⟩ : ∃ m, f = m + 1 := ⟨f - 1, by omega⟩
    refine pk_le 5 k (fun z => by omega) (fun _ => ⟨tc_nr c + 1, ?_⟩)
    refine yw_41 W U (t := tr_rd (tc_lf c) (tc_cf c) (tc_rc c) (tc_nr c) t k) hn ho hwa hwb (tr_rd_G ht k) (fun p hp => ?_) (fun L' X' G' E' F' => ?_) (tc_nr c) 0 (by omega) L X G (fun r hr => absurd hr (Nat.not_lt_zero _)) (fun j hj => rfl) _ (by omega)
    · rw [tr_rd_hi hl (tc_en_op4 hp)]; exact hh p hp
    · rw [nI_1]
      refine ih (k + 1) (by omega) L' X' G' (fun e5 r hr => ?_) (fun j hj => (F' j hj).trans (F j hj)) f (by omega)
      have ek : k = 4 := by omega
      subst ek
      have z := E' r hr
      rw [tr_fix hl ht r (by omega)] at z
      rw [tr_5 hl ht]
      exact z
theorem yw_3 {post : SY → Prop} {n : Nat} {x2 x3 x4 : Int32} (hn : n < 46)
    (K : ∀ L : Nat → Int32, yw_G n (fun _ => 1000000) L → (∀ j, (j < 74 * n ∨ 74 * n + 74 ≤ j) → L j = b_least j) → ∃ f, wY_workOut_32 post (nI n) x2 x3 x4 f 0 g_noted g_depth g_rules g_planted g_trees g_stateCount g_known g_listed b_marks b_sizes b_lefts b_costs b_lengths b_operators b_spans L b_ways b_tasks b_list) :
    ∀ d k, k + d = 4 → ∀ L : Nat → Int32, (∀ g, g < k → L (74 * n + g) = nI 1000000) → (∀ j, (j < 74 * n ∨ 74 * n + 74 ≤ j) → L j = b_least j) → ∀ f, d < f → wY_workOut_3 post (nI n) x2 x3 x4 g_noted g_depth g_rules g_planted g_trees g_stateCount g_known g_listed f (nI k) b_marks b_sizes b_lefts b_costs b_lengths b_operators b_spans L b_ways b_tasks b_list := by
  intro d
  induction d with
  | zero =>
    intro k hk L G F f hf
    obtain ⟨f, rfl⟩ : ∃ m, f = m + 1 := ⟨f - 1, by omega⟩
    have ek : k = 4 := by omega
    subst ek
    exact pk_le 4 4 (fun _ => K L G F) (fun z => by omega)
  | succ d ih =>
    intro k hk L G F f hf
    obtain ⟨f, rfl⟩ : ∃ m, f = m + 1 := ⟨f - 1, by omega⟩
    have e1 := xt_74 n k
    refine pk_le 4 k (fun z => by omega) (fun _ => ⟨pk_in (74 * n + k) 3404 (by omega) e1, nm_r (e' := upd L (74 * n + k) (nI 1000000)) (by rw [e1, nI_clamp (by omega)]; rfl) (nm_r (nI_1 k) (ih (k + 1) (by omega) _ (fun g hg => ?_) (fun j hj => ?_) f (by omega)))⟩)
    · by_cases z : g = k
      · rw [z, pk_us]
      · rw [pk_un (by omega)]; exact G g (by omega)
    · rw [pk_un (by omega)]; exact F j hj
theorem yw_out (W : tc_wf c) (U : yw_U c b_marks b_sizes b_lefts b_costs b_lengths) {post : SY → Prop} {n o x y : Nat} {wa wb : Nat → Nat} (hn : n < 46) (ho : o < 6)
    (hwa : ∀ e, wa e ≤ 1000000) (hwb : ∀ e, wb e ≤ 1000000) (X : yw_X c n o x y wa wb b_least)
    (K : ∀ L : Nat → Int32, yw_R c L n (fun e => tc_cl (tc_st c o wa wb e)) → (∀ j, (j < 74 * n ∨ 74 * n + 74 ≤ j) → L j = b_least j) → post (g_noted, g_depth, nI (tc_nr c), g_planted, g_trees, g_stateCount, g_known, g_listed, b_marks, b_sizes, b_lefts, b_costs, b_lengths, b_operators, b_spans, L, b_ways, b_tasks, b_list)) :
    wpY_workOut post (g_noted, g_depth, nI (tc_nr c), g_planted, g_trees, g_stateCount, g_known, g_listed, b_marks, b_sizes, b_lefts, b_costs, b_lengths, b_operators, b_spans, b_least, b_ways, b_tasks, b_list) (nI n) (nI o) (nI x) (nI y) := by
  refine ⟨5, yw_3 hn (fun L G F => ⟨6, ?_⟩) 4 0 rfl b_least (fun g hg => absurd hg (Nat.not_lt_zero _)) (fun j hj => rfl) 5 (by omega)⟩
  refine yw_32 W U (t := tc_t0 c o wa wb) hn ho hwa hwb (tc_t0_g' o wa wb) (fun p hp => tc_t0_h W o wa wb hp) (fun L' G' E' F' => K L' ⟨fun g hg => ?_, fun p hp => ?_⟩ (fun j hj => (F' j hj).trans (F j hj))) 5 0 rfl L (yw_X_fr W X F) (fun g hg => ?_) (fun z => absurd z (by decide)) (fun j hj => rfl) 6 (by omega)
  · have := tc_st_g (c := c) o wa wb hg
    rw [G' g hg]
    show nI (tc_st c o wa wb g) = nI (tc_cl (tc_st c o wa wb g))
    unfold tc_cl
    split
    · rfl
    · exact congrArg nI (by omega)
  · have z := E' (p / 7) hp.1 (p % 7) hp.2
    rw [show 74 * n + 4 + 7 * (p / 7) + p % 7 = 74 * n + 4 + p by omega, show 7 * (p / 7) + p % 7 = p by omega] at z
    exact z
  · rw [G g hg]
    show nI 1000000 = nI (tc_t0 c o wa wb g)
    rw [tc_t0_g o wa wb hg]
end
end
section
/-! states: lowered vectors, the least closed set, counting -/
def tn_z : Nat → Nat := fun _ => 0
def tn_mn (t : Nat → Nat) : Nat → Nat
  | 0 => 1000000
  | k + 1 => if tn_mn t k ≤ t k then tn_mn t k else t k
def tn_l (t : Nat → Nat) (N : Nat) : Nat := if tn_mn t N = 1000000 then 0 else tn_mn t N
def tn_v (t : Nat → Nat) (N : Nat) : Nat → Nat := fun e => if e < N then (if t e < 1000000 then t e - tn_l t N else 1000000) else 0
theorem tn_mn_le (t : Nat → Nat) : ∀ k, tn_mn t k ≤ 1000000
  | 0 => Nat.le_refl _
  | k + 1 => by
    have := tn_mn_le t k
    unfold tn_mn
    split <;> omega
theorem tn_mn_lb (t : Nat → Nat) : ∀ k j, j < k → tn_mn t k ≤ t j
  | 0, j, h => by omega
  | k + 1, j, h => by
    have a : j < k → tn_mn t k ≤ t j := tn_mn_lb t k j
    unfold tn_mn
    by_cases z : j = k
    · subst z; split <;> omega
    · have := a (by omega)
      split <;> omega
theorem tn_mn_at (t : Nat → Nat) : ∀ k, tn_mn t k = 1000000 ∨ ∃ j, j < k ∧ tn_mn t k = t j
  | 0 => Or.inl rfl
  | k + 1 => by
    unfold tn_mn
    by_cases z : tn_mn t k ≤ t k
    · rw [if_pos z]
      rcases tn_mn_at t k with h | ⟨j, h1, h2⟩
      · exact Or.inl h
      · exact Or.inr ⟨j, by omega, h2⟩
    · rw [if_neg z]
      exact Or.inr ⟨k, by omega, rfl⟩
theorem tn_mn_un {t : Nat → Nat} {k m : Nat} (h0 : m ≤ 1000000) (h1 : ∀ j, j < k → m ≤ t j) (h2 : m = 1000000 ∨ ∃ j, j < k ∧ m = t j) : m = tn_mn t k := by
  have a := tn_mn_le t k
  have b := tn_mn_lb t k
  apply Nat.le_antisymm
  · rcases tn_mn_at t k with h | ⟨j, h3, h4⟩
    · omega
    · rw [h4]; exact h1 j h3
  · rcases h2 with h | ⟨j, h3, h4⟩
    · omega
    · rw [h4]; exact b j h3
theorem tn_mn_ext {t t' : Nat → Nat} : ∀ k, (∀ j, j < k → t' j = t j) → tn_mn t' k = tn_mn t k
  | 0, _ => rfl
  | k + 1, h => by
    unfold tn_mn
    rw [tn_mn_ext k (fun j hj => h j (by omega)), h k (by omega)]
theorem tn_mn_cl (t : Nat → Nat) (k : Nat) : tn_mn (fun e => tc_cl (t e)) k = tn_mn t k := by
  symm
  have a := tn_mn_le t k
  refine tn_mn_un a (fun j hj => ?_) ?_
  · have := tn_mn_lb t k j hj
    show tn_mn t k ≤ tc_cl (t j)
    unfold tc_cl
    split <;> omega
  · rcases tn_mn_at t k with h | ⟨j, h3, h4⟩
    · exact Or.inl h
    · by_cases z : t j < 1000000
      · refine Or.inr ⟨j, h3, ?_⟩
        show tn_mn t k = tc_cl (t j)
        unfold tc_cl
        rw [if_pos z]; exact h4
      · exact Or.inl (by omega)
theorem tn_l_cl (t : Nat → Nat) (k : Nat) : tn_l (fun e => tc_cl (t e)) k = tn_l t k := by
  unfold tn_l
  rw [tn_mn_cl]
theorem tn_v_cl (t : Nat → Nat) (k : Nat) : tn_v (fun e => tc_cl (t e)) k = tn_v t k := by
  funext e
  show (if e < k then (if tc_cl (t e) < 1000000 then tc_cl (t e) - tn_l (fun e => tc_cl (t e)) k else 1000000) else 0) = (if e < k then (if t e < 1000000 then t e - tn_l t k else 1000000) else 0)
  rw [tn_l_cl]
  by_cases z : t e < 1000000
  · rw [show tc_cl (t e) = t e from if_pos z]
  · rw [show tc_cl (t e) = 1000000 from if_neg z, if_neg (by omega : ¬ 1000000 < 1000000), if_neg z]
theorem tn_v_le (t : Nat → Nat) (N e : Nat) : tn_v t N e ≤ 1000000 := by
  unfold tn_v
  split
  · split <;> omega
  · omega
noncomputable def tn_s (c : tc_C) (o : Nat) (a b : Nat → Nat) : Nat → Nat := tn_v (tc_st c o a b) (tc_N c)
noncomputable def tn_a (c : tc_C) (o : Nat) (a b : Nat → Nat) : Nat := tn_l (tc_st c o a b) (tc_N c)
theorem tn_a_le (c : tc_C) (o : Nat) (a b : Nat → Nat) : tn_a c o a b ≤ 1000000 := by
  unfold tn_a tn_l
  have := tn_mn_le (tc_st c o a b) (tc_N c)
  split <;> omega
def tn_Q (c : tc_C) (S : (Nat → Nat) → Prop) : Prop := (∀ o, o < 2 → S (tn_s c o tn_z tn_z)) ∧ (∀ o, 2 ≤ o → o < 4 → ∀ a, S a → S (tn_s c o a tn_z)) ∧ (∀ o, 4 ≤ o → o < 6 → ∀ a b, S a → S b → S (tn_s c o a b))
def tn_R (c : tc_C) (w : Nat → Nat) : Prop := ∀ S, tn_Q c S → S w
theorem tn_R_Q (c : tc_C) : tn_Q c (tn_R c) :=
  ⟨fun o h S q => q.1 o h, fun o h1 h2 a ha S q => q.2.1 o h1 h2 a (ha S q), fun o h1 h2 a b ha hb S q => q.2.2 o h1 h2 a b (ha S q) (hb S q)⟩
theorem tn_R_le {c : tc_C} {w : Nat → Nat} (h : tn_R c w) : ∀ e, w e ≤ 1000000 :=
  h (fun w => ∀ e, w e ≤ 1000000) ⟨fun _ _ => tn_v_le _ _, fun _ _ _ _ _ => tn_v_le _ _, fun _ _ _ _ _ _ _ => tn_v_le _ _⟩
theorem tn_v_hi (t : Nat → Nat) (N : Nat) {e : Nat} (h : N ≤ e) : tn_v t N e = 0 := if_neg (by omega)
theorem tn_R_hi {c : tc_C} {w : Nat → Nat} (h : tn_R c w) : ∀ e, tc_N c ≤ e → w e = 0 :=
  h (fun w => ∀ e, tc_N c ≤ e → w e = 0) ⟨fun _ _ _ h => tn_v_hi _ _ h, fun _ _ _ _ _ _ h => tn_v_hi _ _ h, fun _ _ _ _ _ _ _ _ h => tn_v_hi _ _ h⟩
/-- rows that are closed under all operators -/
def tn_K (c : tc_C) (sc : Nat) (sv : Nat → Nat → Nat) : Prop := tn_Q c (fun w => ∃ s, s < sc ∧ sv s = w)
theorem tn_K_all {c : tc_C} {sc : Nat} {sv : Nat → Nat → Nat} (k : tn_K c sc sv) {w : Nat → Nat} (h : tn_R c w) : ∃ s, s < sc ∧ sv s = w := h _ k
noncomputable def tn_ct (P : Nat → Prop) : Nat → Nat
  | 0 => 0
  | k + 1 => tn_ct P k + tc_b (P k)
theorem tc_b_le (P : Prop) : tc_b P ≤ 1 := by
  by_cases h : P
  · rw [tc_b_t h]; exact Nat.le_refl _
  · rw [tc_b_f h]; omega
theorem tc_b_mono {P Q : Prop} (h : P → Q) : tc_b P ≤ tc_b Q := by
  by_cases hp : P
  · rw [tc_b_t hp, tc_b_t (h hp)]; exact Nat.le_refl _
  · rw [tc_b_f hp]; exact Nat.zero_le _
theorem tn_ct_mono {P Q : Nat → Prop} : ∀ k, (∀ j, j < k → P j → Q j) → tn_ct P k ≤ tn_ct Q k
  | 0, _ => Nat.le_refl _
  | k + 1, h => Nat.add_le_add (tn_ct_mono k (fun j hj => h j (by omega))) (tc_b_mono (h k (by omega)))
theorem tn_ct_lt {P Q : Nat → Prop} {a : Nat} (hp : ¬ P a) (hq : Q a) : ∀ k, a < k → (∀ j, j < k → P j → Q j) → tn_ct P k < tn_ct Q k
  | 0, h, _ => by omega
  | k + 1, h, hm => by
    show tn_ct P k + tc_b (P k) < tn_ct Q k + tc_b (Q k)
    by_cases z : a = k
    · subst z
      have := tn_ct_mono (P := P) (Q := Q) a (fun j hj => hm j (by omega))
      rw [tc_b_t hq, tc_b_f hp]; omega
    · have := tn_ct_lt hp hq k (by omega) (fun j hj => hm j (by omega))
      have := tc_b_mono (hm k (by omega))
      omega
theorem tn_ct_le (P : Nat → Prop) : ∀ k, tn_ct P k ≤ k
  | 0 => Nat.le_refl _
  | k + 1 => Nat.add_le_add (tn_ct_le P k) (tc_b_le _)
theorem tn_ct_all {P : Nat → Prop} : ∀ k, (∀ j, j < k → P j) → tn_ct P k = k
  | 0, _ => rfl
  | k + 1, h => by
    show tn_ct P k + tc_b (P k) = k + 1
    rw [tn_ct_all k (fun j hj => h j (by omega)), tc_b_t (h k (by omega))]
theorem tn_ph {α : Type} {f g : Nat → α} {b : Nat} : ∀ a (P : α → Prop), (∀ i j, i < j → j < a → f i ≠ f j) → (∀ i, i < a → P (f i) → ∃ j, j < b ∧ g j = f i) → tn_ct (fun i => P (f i)) a ≤ tn_ct (fun j => P (g j)) b
  | 0, P, _, _ => Nat.zero_le _
  | a + 1, P, hd, hi => by
    show tn_ct (fun i => P (f i)) a + tc_b (P (f a)) ≤ _
    by_cases hp : P (f a)
    · obtain ⟨j0, hj, ej⟩ := hi a (by omega) hp
      have ih := tn_ph (f := f) (g := g) (b := b) a (fun x => P x ∧ x ≠ f a) (fun i j h1 h2 => hd i j h1 (by omega)) (fun i h1 h2 => hi i (by omega) h2.1)
      have e1 : tn_ct (fun i => P (f i)) a ≤ tn_ct (fun i => P (f i) ∧ f i ≠ f a) a := tn_ct_mono a (fun j hj hp => ⟨hp, hd j a hj (by omega)⟩)
      have e2 : tn_ct (fun j => P (g j) ∧ g j ≠ f a) b < tn_ct (fun j => P (g j)) b := tn_ct_lt (a := j0) (fun z => z.2 ej) (by rw [ej]; exact hp) b hj (fun j _ z => z.1)
      rw [tc_b_t hp]
      omega
    · rw [tc_b_f hp]
      exact tn_ph a P (fun i j h1 h2 => hd i j h1 (by omega)) (fun i h1 h2 => hi i (by omega) h2)
def tn_D (sc : Nat) (sv : Nat → Nat → Nat) : Prop := ∀ i j, i < j → j < sc → sv i ≠ sv j
/-- both sides whole: the same answers -/
theorem tn_fin {c : tc_C} {sc sy : Nat} {sv yv : Nat → Nat → Nat} (hd : tn_D sc sv) (he : tn_D sy yv) (hr : ∀ s, s < sc → tn_R c (sv s)) (hq : ∀ s, s < sy → tn_R c (yv s)) (h20 : sc ≤ 20)
    (hx : tn_K c sc sv) (hy : sy = 21 ∨ tn_K c sy yv) : sy = sc ∧ ∀ P : (Nat → Nat) → Prop, tn_ct (fun s => P (sv s)) sc = tn_ct (fun s => P (yv s)) sy := by
  have le1 : ∀ P : (Nat → Nat) → Prop, tn_ct (fun s => P (yv s)) sy ≤ tn_ct (fun s => P (sv s)) sc := fun P => tn_ph sy P he (fun i hi _ => tn_K_all hx (hq i hi))
  have a1 := le1 (fun _ => True)
  rw [tn_ct_all sy (fun _ _ => trivial), tn_ct_all sc (fun _ _ => trivial)] at a1
  rcases hy with hy | hy
  · omega
  · have le2 : ∀ P : (Nat → Nat) → Prop, tn_ct (fun s => P (sv s)) sc ≤ tn_ct (fun s => P (yv s)) sy := fun P => tn_ph sc P hd (fun i hi _ => tn_K_all hy (hr i hi))
    have a2 := le2 (fun _ => True)
    rw [tn_ct_all sy (fun _ _ => trivial), tn_ct_all sc (fun _ _ => trivial)] at a2
    exact ⟨by omega, fun P => Nat.le_antisymm (le2 P) (le1 P)⟩
theorem tn_fin2 {c : tc_C} {sy : Nat} {sv yv : Nat → Nat → Nat} {w : Nat → Nat} (hd : tn_D 20 sv) (hr : ∀ s, s < 20 → tn_R c (sv s)) (hw : tn_R c w) (hn : ∀ s, s < 20 → sv s ≠ w) (hs : sy ≤ 21)
    (hy : sy = 21 ∨ tn_K c sy yv) : sy = 21 := by
  rcases hy with hy | hy
  · exact hy
  · have h := tn_ph (f := fun s => if s = 20 then w else sv s) (g := yv) (b := sy) 21 (fun _ => True) (fun i j h1 h2 => ?_) (fun i hi _ => ?_)
    · rw [tn_ct_all sy (fun _ _ => trivial), tn_ct_all 21 (fun _ _ => trivial)] at h
      omega
    · rw [if_neg (by omega)]
      by_cases z : j = 20
      · rw [if_pos z]; exact hn i (by omega)
      · rw [if_neg z]; exact hd i j h1 (by omega)
    · by_cases z : i = 20
      · rw [if_pos z]; exact tn_K_all hy hw
      · rw [if_neg z]; exact tn_K_all hy (hr i (by omega))
end
section
/-! X: lower, sameAs, stateOfTrial -/
section
variable {f_drafted f_patternHeight f_rules f_nodes f_treeHeight f_isLaid f_entries f_stateCount f_isWhole f_tooMany f_trialLeast f_covered f_works f_fromStates f_whereFirst f_whereSecond : Int32} {a_draft a_patternBegin a_left a_ruleCost a_ruleSize a_rulePart a_operator a_firstPart a_secondPart a_stack a_treeBegin a_helperOperator a_helperFirst a_helperSecond a_chainFrom a_openParts a_stateCost a_leafState a_leafAdd a_oneState a_oneAdd a_twoState a_twoAdd a_trial a_nodeCost a_nodeWays a_cover a_workEntry a_workNode a_nodeState a_nodeBase : Nat → Int32} {c : tc_C}
theorem xb_75 {post : SX → Prop} {N : Nat} {t : Nat → Nat} (hN : N ≤ 74) (ht : ∀ e, t e ≤ 2000000)
    (K : ∀ tr : Nat → Int32, xt_T N (tn_v t N) tr → post (f_drafted, f_patternHeight, f_rules, f_nodes, f_treeHeight, f_isLaid, nI N, f_stateCount, f_isWhole, f_tooMany, nI (tn_l t N), f_covered, f_works, f_fromStates, f_whereFirst, f_whereSecond, a_draft, a_patternBegin, a_left, a_ruleCost, a_ruleSize, a_rulePart, a_operator, a_firstPart, a_secondPart, a_stack, a_treeBegin, a_helperOperator, a_helperFirst, a_helperSecond, a_chainFrom, a_openParts, a_stateCost, a_leafState, a_leafAdd, a_oneState, a_oneAdd, a_twoState, a_twoAdd, tr, a_nodeCost, a_nodeWays, a_cover, a_workEntry, a_workNode, a_nodeState, a_nodeBase)) :
    ∀ d k, k + d = N → ∀ tr : Nat → Int32, xt_T k (tn_v t N) tr → (∀ e, k ≤ e → e < N → tr e = nI (t e)) → ∀ n, d < n → wX_lower_75 post f_drafted f_patternHeight f_rules f_nodes f_treeHeight f_isLaid (nI N) f_stateCount f_isWhole f_tooMany (nI (tn_l t N)) f_covered f_works f_fromStates f_whereFirst f_whereSecond n (nI k) a_draft a_patternBegin a_left a_ruleCost a_ruleSize a_rulePart a_operator a_firstPart a_secondPart a_stack a_treeBegin a_helperOperator a_helperFirst a_helperSecond a_chainFrom a_openParts a_stateCost a_leafState a_leafAdd a_oneState a_oneAdd a_twoState a_twoAdd tr a_nodeCost a_nodeWays a_cover a_workEntry a_workNode a_nodeState a_nodeBase := by
  intro d
  induction d with
  | zero =>
    intro k hk tr T T2 n hn
    obtain ⟨n, rfl⟩ : ∃ m, n = m + 1 := ⟨n - 1, by omega⟩
    have ek : k = N := by omega
    subst ek
    exact pk_le k k (fun _ => K tr T) (fun z => by omega)
  | succ d ih =>
    intro k hk tr T T2 n hn
    obtain ⟨n, rfl⟩ : ∃ m, n = m + 1 := ⟨n - 1, by omega⟩
    have ek := T2 k (Nat.le_refl _) (by omega)
    have hb := ht k
    have i1 : vp_in (nI k) 74 := vp_in_nI (by omega) (by decide)
    have ec : tr (nI k).toNatClampNeg = nI (t k) := by rw [nI_clamp (by omega)]; exact ek
    have key : ∀ v : Int32, v = nI (tn_v t N k) → wX_lower_75 post f_drafted f_patternHeight f_rules f_nodes f_treeHeight f_isLaid (nI N) f_stateCount f_isWhole f_tooMany (nI (tn_l t N)) f_covered f_works f_fromStates f_whereFirst f_whereSecond n (nI (k + 1)) a_draft a_patternBegin a_left a_ruleCost a_ruleSize a_rulePart a_operator a_firstPart a_secondPart a_stack a_treeBegin a_helperOperator a_helperFirst a_helperSecond a_chainFrom a_openParts a_stateCost a_leafState a_leafAdd a_oneState a_oneAdd a_twoState a_twoAdd (upd tr k v) a_nodeCost a_nodeWays a_cover a_workEntry a_workNode a_nodeState a_nodeBase := by
      intro v hv
      refine ih (k + 1) (by omega) _ (fun e he => ?_) (fun e h1 h2 => ?_) n (by omega)
      · by_cases z : e = k
        · rw [z, pk_us, hv]
        · rw [pk_un z]; exact T e (by omega)
      · rw [pk_un (by omega)]; exact T2 e (by omega) h2
    refine pk_le N k (fun z => by omega) (fun _ => ⟨i1, pk_lt (t k) 1000000 (fun z => ⟨i1, i1, nm_r (tc_upc (by omega) rfl) (nm_r (nI_1 k) (key _ ?_))⟩) (fun z => ⟨i1, nm_r (tc_upc (by omega) rfl) (nm_r (nI_1 k) (key _ ?_))⟩) ec⟩)
    · have hl : tn_l t N ≤ t k := by
        have := tn_mn_lb t N k (by omega)
        unfold tn_l
        split <;> omega
      rw [ec, pk_sub hl]
      unfold tn_v
      rw [if_pos (by omega), if_pos z]
    · unfold tn_v
      rw [if_pos (by omega), if_neg (by omega)]
      rfl
theorem xb_8 {post : SX → Prop} {N : Nat} {t : Nat → Nat} (hN : N ≤ 74) (ht : ∀ e, t e ≤ 2000000) (T : xt_T N t a_trial)
    (K : ∀ tr : Nat → Int32, xt_T N (tn_v t N) tr → post (f_drafted, f_patternHeight, f_rules, f_nodes, f_treeHeight, f_isLaid, nI N, f_stateCount, f_isWhole, f_tooMany, nI (tn_l t N), f_covered, f_works, f_fromStates, f_whereFirst, f_whereSecond, a_draft, a_patternBegin, a_left, a_ruleCost, a_ruleSize, a_rulePart, a_operator, a_firstPart, a_secondPart, a_stack, a_treeBegin, a_helperOperator, a_helperFirst, a_helperSecond, a_chainFrom, a_openParts, a_stateCost, a_leafState, a_leafAdd, a_oneState, a_oneAdd, a_twoState, a_twoAdd, tr, a_nodeCost, a_nodeWays, a_cover, a_workEntry, a_workNode, a_nodeState, a_nodeBase)) :
    ∀ d k, k + d = N → ∀ n, d < n → wX_lower_8 post f_drafted f_patternHeight f_rules f_nodes f_treeHeight f_isLaid (nI N) f_stateCount f_isWhole f_tooMany f_covered f_works f_fromStates f_whereFirst f_whereSecond a_draft a_patternBegin a_left a_ruleCost a_ruleSize a_rulePart a_operator a_firstPart a_secondPart a_stack a_treeBegin a_helperOperator a_helperFirst a_helperSecond a_chainFrom a_openParts a_stateCost a_leafState a_leafAdd a_oneState a_oneAdd a_twoState a_twoAdd a_trial a_nodeCost a_nodeWays a_cover a_workEntry a_workNode a_nodeState a_nodeBase n (nI k) (nI (tn_mn t k)) := by
  intro d
  induction d with
  | zero =>
    intro k hk n hn
    obtain ⟨n, rfl⟩ : ∃ m, n = m + 1 := ⟨n - 1, by omega⟩
    have ek : k = N := by omega
    subst ek
    have hm := tn_mn_le t k
    refine pk_le k k (fun _ => pk_eq (tn_mn t k) 1000000 (fun z => ⟨k + 1, ?_⟩) (fun z => ⟨k + 1, ?_⟩)) (fun z => by omega)
    · have e : tn_l t k = 0 := if_pos z
      have h := xb_75 hN ht K k 0 (by omega) a_trial (fun e he => absurd he (Nat.not_lt_zero _)) (fun e _ he => T e he) (k + 1) (by omega)
      rw [e] at h
      exact h
    · have e : tn_l t k = tn_mn t k := if_neg z
      have h := xb_75 hN ht K k 0 (by omega) a_trial (fun e he => absurd he (Nat.not_lt_zero _)) (fun e _ he => T e he) (k + 1) (by omega)
      rw [e] at h
      exact h
  | succ d ih =>
    intro k hk n hn
    obtain ⟨n, rfl⟩ : ∃ m, n = m + 1 := ⟨n - 1, by omega⟩
    have ek : a_trial (nI k).toNatClampNeg = nI (t k) := by rw [nI_clamp (by omega)]; exact T k (by omega)
    have hb := ht k
    have hm := tn_mn_le t k
    have i1 : vp_in (nI k) 74 := vp_in_nI (by omega) (by decide)
    have e1 := ih (k + 1) (by omega) n (by omega)
    refine pk_le N k (fun z => by omega) (fun _ => ⟨i1, pk_le (tn_mn t k) (t k) (fun z => nm_r (nI_1 k) ?_) (fun z => ⟨i1, nm_r ek (nm_r (nI_1 k) ?_)⟩) rfl ek⟩)
    · rw [show tn_mn t (k + 1) = tn_mn t k from if_pos z] at e1
      exact e1
    · rw [show tn_mn t (k + 1) = t k from if_neg (by omega)] at e1
      exact e1
theorem xb_lower {post : SX → Prop} {N : Nat} {t : Nat → Nat} (hN : N ≤ 74) (ht : ∀ e, t e ≤ 2000000) (T : xt_T N t a_trial)
    (K : ∀ tr : Nat → Int32, xt_T N (tn_v t N) tr → post (f_drafted, f_patternHeight, f_rules, f_nodes, f_treeHeight, f_isLaid, nI N, f_stateCount, f_isWhole, f_tooMany, nI (tn_l t N), f_covered, f_works, f_fromStates, f_whereFirst, f_whereSecond, a_draft, a_patternBegin, a_left, a_ruleCost, a_ruleSize, a_rulePart, a_operator, a_firstPart, a_secondPart, a_stack, a_treeBegin, a_helperOperator, a_helperFirst, a_helperSecond, a_chainFrom, a_openParts, a_stateCost, a_leafState, a_leafAdd, a_oneState, a_oneAdd, a_twoState, a_twoAdd, tr, a_nodeCost, a_nodeWays, a_cover, a_workEntry, a_workNode, a_nodeState, a_nodeBase)) : wpX_lower post (f_drafted, f_patternHeight, f_rules, f_nodes, f_treeHeight, f_isLaid, nI N, f_stateCount, f_isWhole, f_tooMany, f_trialLeast, f_covered, f_works, f_fromStates, f_whereFirst, f_whereSecond, a_draft, a_patternBegin, a_left, a_ruleCost, a_ruleSize, a_rulePart, a_operator, a_firstPart, a_secondPart, a_stack, a_treeBegin, a_helperOperator, a_helperFirst, a_helperSecond, a_chainFrom, a_openParts, a_stateCost, a_leafState, a_leafAdd, a_oneState, a_oneAdd, a_twoState, a_twoAdd, a_trial, a_nodeCost, a_nodeWays, a_cover, a_workEntry, a_workNode, a_nodeState, a_nodeBase) :=
  ⟨N + 1, xb_8 hN ht T K N 0 (by omega) (N + 1) (by omega)⟩
theorem xb_same0 {post : Int32 → Prop} {x1 : Int32} {N k n : Nat} (hk : k ≤ N) (hN : N ≤ 74) (hp : post 0) : wX_sameAs_4 post x1 f_drafted f_patternHeight f_rules f_nodes f_treeHeight f_isLaid (nI N) f_stateCount f_isWhole f_tooMany f_trialLeast f_covered f_works f_fromStates f_whereFirst f_whereSecond a_draft a_patternBegin a_left a_ruleCost a_ruleSize a_rulePart a_operator a_firstPart a_secondPart a_stack a_treeBegin a_helperOperator a_helperFirst a_helperSecond a_chainFrom a_openParts a_stateCost a_leafState a_leafAdd a_oneState a_oneAdd a_twoState a_twoAdd a_trial a_nodeCost a_nodeWays a_cover a_workEntry a_workNode a_nodeState a_nodeBase (n + 1) 0 (nI k) :=
  pk_le N k (fun _ => ⟨rfl, hp⟩) (fun _ => br_t rfl ⟨rfl, hp⟩)
theorem xb_same {post : Int32 → Prop} {N s : Nat} (hN : N ≤ 74) (hs : s < 22) (K1 : (∀ e, e < N → a_stateCost (74 * s + e) = a_trial e) → post 1) (K0 : (∃ e, e < N ∧ a_stateCost (74 * s + e) ≠ a_trial e) → post 0) :
    ∀ d k, k + d = N → (∀ e, e < k → a_stateCost (74 * s + e) = a_trial e) → ∀ n, d + 1 < n → wX_sameAs_4 post (nI s) f_drafted f_patternHeight f_rules f_nodes f_treeHeight f_isLaid (nI N) f_stateCount f_isWhole f_tooMany f_trialLeast f_covered f_works f_fromStates f_whereFirst f_whereSecond a_draft a_patternBegin a_left a_ruleCost a_ruleSize a_rulePart a_operator a_firstPart a_secondPart a_stack a_treeBegin a_helperOperator a_helperFirst a_helperSecond a_chainFrom a_openParts a_stateCost a_leafState a_leafAdd a_oneState a_oneAdd a_twoState a_twoAdd a_trial a_nodeCost a_nodeWays a_cover a_workEntry a_workNode a_nodeState a_nodeBase n 1 (nI k) := by
  intro d
  induction d with
  | zero =>
    intro k hk h n hn
    obtain ⟨n, rfl⟩ : ∃ m, n = m + 1 := ⟨n - 1, by omega⟩
    have ek : k = N := by omega
    subst ek
    exact pk_le k k (fun _ => ⟨rfl, K1 h⟩) (fun z => by omega)
  | succ d ih =>
    intro k hk h n hn
    obtain ⟨n, rfl⟩ : ∃ m, n = m + 1 := ⟨n - 1, by omega⟩
    have e1 := xt_74 s k
    have e2 : a_stateCost (74 * nI s + nI k).toNatClampNeg = a_stateCost (74 * s + k) := by rw [e1, nI_clamp (by omega)]
    have e3 : a_trial (nI k).toNatClampNeg = a_trial k := by rw [nI_clamp (by omega)]
    refine pk_le N k (fun z => by omega) (fun _ => br_f (by decide) ⟨pk_in (74 * s + k) 1628 (by omega) e1, vp_in_nI (by omega) (by decide), ?_⟩)
    rw [e2, e3]
    refine br_c (fun z => nm_r (nI_1 k) (ih (k + 1) (by omega) (fun e he => ?_) n (by omega))) (fun z => nm_r (nI_1 k) ?_)
    · by_cases y : e = k
      · rw [y]; exact z
      · exact h e (by omega)
    · obtain ⟨n, rfl⟩ : ∃ m, n = m + 1 := ⟨n - 1, by omega⟩
      exact xb_same0 (by omega) hN (K0 ⟨k, by omega, z⟩)
/-- rows of the states that are known -/
def xb_W (N sc : Nat) (sv : Nat → Nat → Nat) (SC : Nat → Int32) : Prop := ∀ s, s < sc → ∀ e, e < N → SC (74 * s + e) = nI (sv s e)
theorem xb_51 {post : Int32 → SX → Prop} {N sc : Nat} {v : Nat → Nat} (hN : N ≤ 74) (hs : sc < 20) (T : xt_T N v a_trial)
    (K : ∀ SC : Nat → Int32, (∀ j, j < 74 * sc → SC j = a_stateCost j) → (∀ e, e < N → SC (74 * sc + e) = nI (v e)) → post (nI sc) (f_drafted, f_patternHeight, f_rules, f_nodes, f_treeHeight, f_isLaid, nI N, nI (sc + 1), f_isWhole, f_tooMany, f_trialLeast, f_covered, f_works, f_fromStates, f_whereFirst, f_whereSecond, a_draft, a_patternBegin, a_left, a_ruleCost, a_ruleSize, a_rulePart, a_operator, a_firstPart, a_secondPart, a_stack, a_treeBegin, a_helperOperator, a_helperFirst, a_helperSecond, a_chainFrom, a_openParts, SC, a_leafState, a_leafAdd, a_oneState, a_oneAdd, a_twoState, a_twoAdd, a_trial, a_nodeCost, a_nodeWays, a_cover, a_workEntry, a_workNode, a_nodeState, a_nodeBase)) :
    ∀ d k, k + d = N → ∀ SC : Nat → Int32, (∀ j, j < 74 * sc → SC j = a_stateCost j) → (∀ e, e < k → SC (74 * sc + e) = nI (v e)) → ∀ n, d < n → wX_stateOfTrial_51 post f_drafted f_patternHeight f_rules f_nodes f_treeHeight f_isLaid (nI N) (nI sc) f_isWhole f_tooMany f_trialLeast f_covered f_works f_fromStates f_whereFirst f_whereSecond n (nI k) a_draft a_patternBegin a_left a_ruleCost a_ruleSize a_rulePart a_operator a_firstPart a_secondPart a_stack a_treeBegin a_helperOperator a_helperFirst a_helperSecond a_chainFrom a_openParts SC a_leafState a_leafAdd a_oneState a_oneAdd a_twoState a_twoAdd a_trial a_nodeCost a_nodeWays a_cover a_workEntry a_workNode a_nodeState a_nodeBase := by
  intro d
  induction d with
  | zero =>
    intro k hk SC h1 h2 n hn
    obtain ⟨n, rfl⟩ : ∃ m, n = m + 1 := ⟨n - 1, by omega⟩
    have ek : k = N := by omega
    subst ek
    refine pk_le k k (fun _ => nm_r (nI_1 sc) ?_) (fun z => by omega)
    rw [nI_pred]
    exact K SC h1 h2
  | succ d ih =>
    intro k hk SC h1 h2 n hn
    obtain ⟨n, rfl⟩ : ∃ m, n = m + 1 := ⟨n - 1, by omega⟩
    have e1 := xt_74 sc k
    refine pk_le N k (fun z => by omega) (fun _ => ⟨vp_in_nI (by omega) (by decide), pk_in (74 * sc + k) 1628 (by omega) e1, nm_r (e' := upd SC (74 * sc + k) (nI (v k))) ?_ (nm_r (nI_1 k) (ih (k + 1) (by omega) _ (fun j hj => ?_) (fun e he => ?_) n (by omega)))⟩)
    · rw [e1, nI_clamp (by omega), nI_clamp (by omega), T k (by omega)]
    · rw [pk_un (by omega)]; exact h1 j hj
    · by_cases z : e = k
      · rw [z, pk_us]
      · rw [pk_un (by omega)]; exact h2 e (by omega)
theorem xb_6 {post : Int32 → SX → Prop} {N sc : Nat} {sv : Nat → Nat → Nat} {v : Nat → Nat} (hN : N ≤ 74) (hs : sc ≤ 20) (T : xt_T N v a_trial) (hv : ∀ e, v e ≤ 1000000) (hz : ∀ e, N ≤ e → v e = 0)
    (Rw : xb_W N sc sv a_stateCost) (hb : ∀ s, s < sc → ∀ e, sv s e ≤ 1000000) (hc : ∀ s, s < sc → ∀ e, N ≤ e → sv s e = 0)
    (K1 : ∀ s, s < sc → sv s = v → post (nI s) (f_drafted, f_patternHeight, f_rules, f_nodes, f_treeHeight, f_isLaid, nI N, nI sc, f_isWhole, f_tooMany, f_trialLeast, f_covered, f_works, f_fromStates, f_whereFirst, f_whereSecond, a_draft, a_patternBegin, a_left, a_ruleCost, a_ruleSize, a_rulePart, a_operator, a_firstPart, a_secondPart, a_stack, a_treeBegin, a_helperOperator, a_helperFirst, a_helperSecond, a_chainFrom, a_openParts, a_stateCost, a_leafState, a_leafAdd, a_oneState, a_oneAdd, a_twoState, a_twoAdd, a_trial, a_nodeCost, a_nodeWays, a_cover, a_workEntry, a_workNode, a_nodeState, a_nodeBase))
    (K2 : sc = 20 → (∀ s, s < sc → sv s ≠ v) → post 20 (f_drafted, f_patternHeight, f_rules, f_nodes, f_treeHeight, f_isLaid, nI N, nI sc, f_isWhole, 1, f_trialLeast, f_covered, f_works, f_fromStates, f_whereFirst, f_whereSecond, a_draft, a_patternBegin, a_left, a_ruleCost, a_ruleSize, a_rulePart, a_operator, a_firstPart, a_secondPart, a_stack, a_treeBegin, a_helperOperator, a_helperFirst, a_helperSecond, a_chainFrom, a_openParts, a_stateCost, a_leafState, a_leafAdd, a_oneState, a_oneAdd, a_twoState, a_twoAdd, a_trial, a_nodeCost, a_nodeWays, a_cover, a_workEntry, a_workNode, a_nodeState, a_nodeBase))
    (K3 : sc < 20 → (∀ s, s < sc → sv s ≠ v) → ∀ SC : Nat → Int32, (∀ j, j < 74 * sc → SC j = a_stateCost j) → (∀ e, e < N → SC (74 * sc + e) = nI (v e)) → post (nI sc) (f_drafted, f_patternHeight, f_rules, f_nodes, f_treeHeight, f_isLaid, nI N, nI (sc + 1), f_isWhole, f_tooMany, f_trialLeast, f_covered, f_works, f_fromStates, f_whereFirst, f_whereSecond, a_draft, a_patternBegin, a_left, a_ruleCost, a_ruleSize, a_rulePart, a_operator, a_firstPart, a_secondPart, a_stack, a_treeBegin, a_helperOperator, a_helperFirst, a_helperSecond, a_chainFrom, a_openParts, SC, a_leafState, a_leafAdd, a_oneState, a_oneAdd, a_twoState, a_twoAdd, a_trial, a_nodeCost, a_nodeWays, a_cover, a_workEntry, a_workNode, a_nodeState, a_nodeBase)) :
    ∀ d k, k + d = sc → (∀ s, s < k → sv s ≠ v) → ∀ n, d < n → wX_stateOfTrial_6 post f_drafted f_patternHeight f_rules f_nodes f_treeHeight f_isLaid (nI N) (nI sc) f_isWhole f_tooMany f_trialLeast f_covered f_works f_fromStates f_whereFirst f_whereSecond a_draft a_patternBegin a_left a_ruleCost a_ruleSize a_rulePart a_operator a_firstPart a_secondPart a_stack a_treeBegin a_helperOperator a_helperFirst a_helperSecond a_chainFrom a_openParts a_stateCost a_leafState a_leafAdd a_oneState a_oneAdd a_twoState a_twoAdd a_trial a_nodeCost a_nodeWays a_cover a_workEntry a_workNode a_nodeState a_nodeBase n (nI k) := by
  intro d
  induction d with
  | zero =>
    intro k hk h n hn
    obtain ⟨n, rfl⟩ : ∃ m, n = m + 1 := ⟨n - 1, by omega⟩
    have ek : k = sc := by omega
    subst ek
    refine pk_le k k (fun _ => pk_eq k 20 (fun z => K2 z h) (fun z => ⟨N + 1, ?_⟩)) (fun z => by omega)
    exact xb_51 hN (by omega) T (K3 (by omega) h) N 0 (by omega) a_stateCost (fun j _ => rfl) (fun e he => absurd he (Nat.not_lt_zero _)) (N + 1) (by omega)
  | succ d ih =>
    intro k hk h n hn
    obtain ⟨n, rfl⟩ : ∃ m, n = m + 1 := ⟨n - 1, by omega⟩
    refine pk_le sc k (fun z => by omega) (fun _ => ⟨N + 2, ?_⟩)
    refine xb_same hN (by omega) (fun q => ?_) (fun q => ?_) N 0 (by omega) (fun e he => absurd he (Nat.not_lt_zero _)) (N + 2) (by omega)
    · refine br_f (by decide) (K1 k (by omega) ?_)
      funext e
      by_cases z : e < N
      · have := q e z
        rw [Rw k (by omega) e z, T e z] at this
        have b1 := hb k (by omega) e
        have b2 := hv e
        exact (nI_eq (by omega) (by omega)).mp this
      · rw [hc k (by omega) e (by omega), hz e (by omega)]
    · refine br_t rfl (nm_r (nI_1 k) (ih (k + 1) (by omega) (fun s hs => ?_) n (by omega)))
      by_cases z : s = k
      · rw [z]
        obtain ⟨e, he, hne⟩ := q
        rw [Rw k (by omega) e he, T e he] at hne
        exact fun y => hne (by rw [y])
      · exact h s (by omega)
theorem xb_sot {post : Int32 → SX → Prop} {N sc : Nat} {sv : Nat → Nat → Nat} {t : Nat → Nat} (hN : N ≤ 74) (hs : sc ≤ 20) (ht : ∀ e, t e ≤ 2000000) (T : xt_T N t a_trial)
    (Rw : xb_W N sc sv a_stateCost) (hb : ∀ s, s < sc → ∀ e, sv s e ≤ 1000000) (hc : ∀ s, s < sc → ∀ e, N ≤ e → sv s e = 0)
    (K1 : ∀ s, s < sc → sv s = tn_v t N → ∀ tr : Nat → Int32, post (nI s) (f_drafted, f_patternHeight, f_rules, f_nodes, f_treeHeight, f_isLaid, nI N, nI sc, f_isWhole, f_tooMany, nI (tn_l t N), f_covered, f_works, f_fromStates, f_whereFirst, f_whereSecond, a_draft, a_patternBegin, a_left, a_ruleCost, a_ruleSize, a_rulePart, a_operator, a_firstPart, a_secondPart, a_stack, a_treeBegin, a_helperOperator, a_helperFirst, a_helperSecond, a_chainFrom, a_openParts, a_stateCost, a_leafState, a_leafAdd, a_oneState, a_oneAdd, a_twoState, a_twoAdd, tr, a_nodeCost, a_nodeWays, a_cover, a_workEntry, a_workNode, a_nodeState, a_nodeBase))
    (K2 : sc = 20 → (∀ s, s < sc → sv s ≠ tn_v t N) → ∀ tr : Nat → Int32, post 20 (f_drafted, f_patternHeight, f_rules, f_nodes, f_treeHeight, f_isLaid, nI N, nI sc, f_isWhole, 1, nI (tn_l t N), f_covered, f_works, f_fromStates, f_whereFirst, f_whereSecond, a_draft, a_patternBegin, a_left, a_ruleCost, a_ruleSize, a_rulePart, a_operator, a_firstPart, a_secondPart, a_stack, a_treeBegin, a_helperOperator, a_helperFirst, a_helperSecond, a_chainFrom, a_openParts, a_stateCost, a_leafState, a_leafAdd, a_oneState, a_oneAdd, a_twoState, a_twoAdd, tr, a_nodeCost, a_nodeWays, a_cover, a_workEntry, a_workNode, a_nodeState, a_nodeBase))
    (K3 : sc < 20 → (∀ s, s < sc → sv s ≠ tn_v t N) → ∀ tr SC : Nat → Int32, (∀ j, j < 74 * sc → SC j = a_stateCost j) → (∀ e, e < N → SC (74 * sc + e) = nI (tn_v t N e)) → post (nI sc) (f_drafted, f_patternHeight, f_rules, f_nodes, f_treeHeight, f_isLaid, nI N, nI (sc + 1), f_isWhole, f_tooMany, nI (tn_l t N), f_covered, f_works, f_fromStates, f_whereFirst, f_whereSecond, a_draft, a_patternBegin, a_left, a_ruleCost, a_ruleSize, a_rulePart, a_operator, a_firstPart, a_secondPart, a_stack, a_treeBegin, a_helperOperator, a_helperFirst, a_helperSecond, a_chainFrom, a_openParts, SC, a_leafState, a_leafAdd, a_oneState, a_oneAdd, a_twoState, a_twoAdd, tr, a_nodeCost, a_nodeWays, a_cover, a_workEntry, a_workNode, a_nodeState, a_nodeBase)) :
    wpX_stateOfTrial post (f_drafted, f_patternHeight, f_rules, f_nodes, f_treeHeight, f_isLaid, nI N, nI sc, f_isWhole, f_tooMany, f_trialLeast, f_covered, f_works, f_fromStates, f_whereFirst, f_whereSecond, a_draft, a_patternBegin, a_left, a_ruleCost, a_ruleSize, a_rulePart, a_operator, a_firstPart, a_secondPart, a_stack, a_treeBegin, a_helperOperator, a_helperFirst, a_helperSecond, a_chainFrom, a_openParts, a_stateCost, a_leafState, a_leafAdd, a_oneState, a_oneAdd, a_twoState, a_twoAdd, a_trial, a_nodeCost, a_nodeWays, a_cover, a_workEntry, a_workNode, a_nodeState, a_nodeBase) := by
  refine xb_lower (f_trialLeast := f_trialLeast) hN ht T (fun tr T' => ⟨sc + 1, ?_⟩)
  exact xb_6 hN hs T' (tn_v_le t N) (fun e he => tn_v_hi t N he) Rw hb hc (fun s h1 h2 => K1 s h1 h2 tr) (fun h1 h2 => K2 h1 h2 tr) (fun h1 h2 SC h3 h4 => K3 h1 h2 tr SC h3 h4) sc 0 (by omega) (fun s hs => absurd hs (Nat.not_lt_zero _)) _ (by omega)
end
end
section
/-! X: the tables; leafStep, oneStep, twoStep -/
section
variable {f_drafted f_patternHeight f_rules f_nodes f_treeHeight f_isLaid f_entries f_stateCount f_isWhole f_tooMany f_trialLeast f_covered f_works f_fromStates f_whereFirst f_whereSecond : Int32} {a_draft a_patternBegin a_left a_ruleCost a_ruleSize a_rulePart a_operator a_firstPart a_secondPart a_stack a_treeBegin a_helperOperator a_helperFirst a_helperSecond a_chainFrom a_openParts a_stateCost a_leafState a_leafAdd a_oneState a_oneAdd a_twoState a_twoAdd a_trial a_nodeCost a_nodeWays a_cover a_workEntry a_workNode a_nodeState a_nodeBase : Nat → Int32} {c : tc_C}
def xb_E (sc : Nat) (sv : Nat → Nat → Nat) (tm x ad : Int32) (v : Nat → Nat) (l : Nat) : Prop := x = -1 ∨ (∃ s, s < sc ∧ x = nI s ∧ sv s = v ∧ ad = nI l) ∨ (x = nI 20 ∧ tm = 1)
def xb_V (sc : Nat) (sv : Nat → Nat → Nat) (tm x ad : Int32) (v : Nat → Nat) (l : Nat) : Prop := (∃ s, s < sc ∧ x = nI s ∧ sv s = v ∧ ad = nI l) ∨ (x = nI 20 ∧ tm = 1)
def xb_B (c : tc_C) (sc : Nat) (sv : Nat → Nat → Nat) (tm : Int32) (SC : Nat → Int32) : Prop :=
  sc ≤ 20 ∧ tn_D sc sv ∧ (∀ s, s < sc → tn_R c (sv s)) ∧ xb_W (tc_N c) sc sv SC ∧ (tm = 0 ∨ (tm = 1 ∧ sc = 20 ∧ ∃ w, tn_R c w ∧ ∀ s, s < 20 → sv s ≠ w))
def xb_L (c : tc_C) (sc : Nat) (sv : Nat → Nat → Nat) (tm : Int32) (LS LA : Nat → Int32) : Prop := ∀ o, o < 2 → xb_E sc sv tm (LS o) (LA o) (tn_s c o tn_z tn_z) (tn_a c o tn_z tn_z)
def xb_1 (c : tc_C) (sc : Nat) (sv : Nat → Nat → Nat) (tm : Int32) (OS OA : Nat → Int32) : Prop := ∀ o, o < 2 → ∀ s, s < 22 →
  (s < sc → xb_E sc sv tm (OS (22 * o + s)) (OA (22 * o + s)) (tn_s c (o + 2) (sv s) tn_z) (tn_a c (o + 2) (sv s) tn_z)) ∧ (sc ≤ s → OS (22 * o + s) = -1)
def xb_2 (c : tc_C) (sc : Nat) (sv : Nat → Nat → Nat) (tm : Int32) (TS TA : Nat → Int32) : Prop := ∀ o, o < 2 → ∀ s, s < 22 → ∀ t, t < 22 →
  (s < sc → t < sc → xb_E sc sv tm (TS (484 * o + 22 * s + t)) (TA (484 * o + 22 * s + t)) (tn_s c (o + 4) (sv s) (sv t)) (tn_a c (o + 4) (sv s) (sv t))) ∧ (sc ≤ s ∨ sc ≤ t → TS (484 * o + 22 * s + t) = -1)
def xb_T (c : tc_C) (sc : Nat) (sv : Nat → Nat → Nat) (tm : Int32) (SC LS LA OS OA TS TA : Nat → Int32) : Prop :=
  xb_B c sc sv tm SC ∧ xb_L c sc sv tm LS LA ∧ xb_1 c sc sv tm OS OA ∧ xb_2 c sc sv tm TS TA
def xb_X (sc : Nat) (sv : Nat → Nat → Nat) (tm : Int32) (sc' : Nat) (sv' : Nat → Nat → Nat) (tm' : Int32) : Prop := sc ≤ sc' ∧ (∀ s, s < sc → sv' s = sv s) ∧ (tm = 1 → tm' = 1)
theorem xb_X_rf {sc : Nat} {sv : Nat → Nat → Nat} {tm : Int32} : xb_X sc sv tm sc sv tm := ⟨Nat.le_refl _, fun _ _ => rfl, id⟩
theorem xb_X_tr {sc sc' sc'' : Nat} {sv sv' sv'' : Nat → Nat → Nat} {tm tm' tm'' : Int32} (h : xb_X sc sv tm sc' sv' tm') (h' : xb_X sc' sv' tm' sc'' sv'' tm'') : xb_X sc sv tm sc'' sv'' tm'' :=
  ⟨Nat.le_trans h.1 h'.1, fun s hs => (h'.2.1 s (Nat.lt_of_lt_of_le hs h.1)).trans (h.2.1 s hs), fun z => h'.2.2 (h.2.2 z)⟩
theorem xb_V_E {sc : Nat} {sv : Nat → Nat → Nat} {tm x ad : Int32} {v : Nat → Nat} {l : Nat} (h : xb_V sc sv tm x ad v l) : xb_E sc sv tm x ad v l := Or.inr h
theorem xb_E_V {sc : Nat} {sv : Nat → Nat → Nat} {tm x ad : Int32} {v : Nat → Nat} {l : Nat} (h : xb_E sc sv tm x ad v l) (hx : ¬ x = -1) : xb_V sc sv tm x ad v l := h.resolve_left hx
theorem xb_E_x {sc sc' : Nat} {sv sv' : Nat → Nat → Nat} {tm tm' x ad : Int32} {v : Nat → Nat} {l : Nat} (X : xb_X sc sv tm sc' sv' tm') (h : xb_E sc sv tm x ad v l) : xb_E sc' sv' tm' x ad v l := by
  rcases h with h | ⟨s, h1, h2, h3, h4⟩ | ⟨h1, h2⟩
  · exact Or.inl h
  · exact Or.inr (Or.inl ⟨s, Nat.lt_of_lt_of_le h1 X.1, h2, (X.2.1 s h1).trans h3, h4⟩)
  · exact Or.inr (Or.inr ⟨h1, X.2.2 h2⟩)
theorem xb_V_x {sc sc' : Nat} {sv sv' : Nat → Nat → Nat} {tm tm' x ad : Int32} {v : Nat → Nat} {l : Nat} (X : xb_X sc sv tm sc' sv' tm') (h : xb_V sc sv tm x ad v l) : xb_V sc' sv' tm' x ad v l := by
  rcases h with ⟨s, h1, h2, h3, h4⟩ | ⟨h1, h2⟩
  · exact Or.inl ⟨s, Nat.lt_of_lt_of_le h1 X.1, h2, (X.2.1 s h1).trans h3, h4⟩
  · exact Or.inr ⟨h1, X.2.2 h2⟩
theorem xb_L_x {sc sc' : Nat} {sv sv' : Nat → Nat → Nat} {tm tm' : Int32} {LS LA : Nat → Int32} (X : xb_X sc sv tm sc' sv' tm') (h : xb_L c sc sv tm LS LA) : xb_L c sc' sv' tm' LS LA := fun o ho => xb_E_x X (h o ho)
theorem xb_1_x {sc sc' : Nat} {sv sv' : Nat → Nat → Nat} {tm tm' : Int32} {OS OA : Nat → Int32} (X : xb_X sc sv tm sc' sv' tm') (h : xb_1 c sc sv tm OS OA) : xb_1 c sc' sv' tm' OS OA := fun o ho s hs => by
  obtain ⟨h1, h2⟩ := h o ho s hs
  refine ⟨fun z => ?_, fun z => h2 (Nat.le_trans X.1 z)⟩
  by_cases y : s < sc
  · rw [X.2.1 s y]; exact xb_E_x X (h1 y)
  · exact Or.inl (h2 (by omega))
theorem xb_2_x {sc sc' : Nat} {sv sv' : Nat → Nat → Nat} {tm tm' : Int32} {TS TA : Nat → Int32} (X : xb_X sc sv tm sc' sv' tm') (h : xb_2 c sc sv tm TS TA) : xb_2 c sc' sv' tm' TS TA := fun o ho s hs t ht => by
  obtain ⟨h1, h2⟩ := h o ho s hs t ht
  have := X.1
  refine ⟨fun z z' => ?_, fun z => h2 (by omega)⟩
  by_cases y : s < sc ∧ t < sc
  · rw [X.2.1 s y.1, X.2.1 t y.2]; exact xb_E_x X (h1 y.1 y.2)
  · exact Or.inl (h2 (by omega))
/-- the state of the trial: the table grows by at most one -/
theorem xb_sot2 (W : tc_wf c) {post : Int32 → SX → Prop} {sc : Nat} {sv : Nat → Nat → Nat} {o : Nat} {a b : Nat → Nat} (B : xb_B c sc sv f_tooMany a_stateCost) (T : xt_T (tc_N c) (tc_st c o a b) a_trial) (hR : tn_R c (tn_s c o a b))
    (K : ∀ (sc' : Nat) (sv' : Nat → Nat → Nat) (tm' x : Int32) (SC tr : Nat → Int32), xb_B c sc' sv' tm' SC → xb_X sc sv f_tooMany sc' sv' tm' → (∀ ad, ad = nI (tn_a c o a b) → xb_V sc' sv' tm' x ad (tn_s c o a b) (tn_a c o a b)) →
      post x (f_drafted, f_patternHeight, f_rules, f_nodes, f_treeHeight, f_isLaid, nI (tc_N c), nI sc', f_isWhole, tm', nI (tn_a c o a b), f_covered, f_works, f_fromStates, f_whereFirst, f_whereSecond, a_draft, a_patternBegin, a_left, a_ruleCost, a_ruleSize, a_rulePart, a_operator, a_firstPart, a_secondPart, a_stack, a_treeBegin, a_helperOperator, a_helperFirst, a_helperSecond, a_chainFrom, a_openParts, SC, a_leafState, a_leafAdd, a_oneState, a_oneAdd, a_twoState, a_twoAdd, tr, a_nodeCost, a_nodeWays, a_cover, a_workEntry, a_workNode, a_nodeState, a_nodeBase)) :
    wpX_stateOfTrial post (f_drafted, f_patternHeight, f_rules, f_nodes, f_treeHeight, f_isLaid, nI (tc_N c), nI sc, f_isWhole, f_tooMany, f_trialLeast, f_covered, f_works, f_fromStates, f_whereFirst, f_whereSecond, a_draft, a_patternBegin, a_left, a_ruleCost, a_ruleSize, a_rulePart, a_operator, a_firstPart, a_secondPart, a_stack, a_treeBegin, a_helperOperator, a_helperFirst, a_helperSecond, a_chainFrom, a_openParts, a_stateCost, a_leafState, a_leafAdd, a_oneState, a_oneAdd, a_twoState, a_twoAdd, a_trial, a_nodeCost, a_nodeWays, a_cover, a_workEntry, a_workNode, a_nodeState, a_nodeBase) := by
  obtain ⟨b1, b2, b3, b4, b5⟩ := B
  refine xb_sot (tc_N_le W).2 b1 (tc_st_le o a b) T b4 (fun s hs => tn_R_le (b3 s hs)) (fun s hs => tn_R_hi (b3 s hs)) (fun s h1 h2 tr => ?_) (fun h1 h2 tr => ?_) (fun h1 h2 tr SC h3 h4 => ?_)
  · exact K sc sv f_tooMany (nI s) a_stateCost tr ⟨b1, b2, b3, b4, b5⟩ xb_X_rf (fun ad h => Or.inl ⟨s, h1, rfl, h2, h⟩)
  · subst h1
    exact K 20 sv 1 20 a_stateCost tr ⟨b1, b2, b3, b4, Or.inr ⟨rfl, rfl, _, hR, h2⟩⟩ ⟨Nat.le_refl _, fun _ _ => rfl, fun _ => rfl⟩ (fun ad h => Or.inr ⟨rfl, rfl⟩)
  · have b5' : f_tooMany = 0 := b5.resolve_right (fun z => by have := z.2.1; omega)
    have es : (fun s => if s = sc then tn_s c o a b else sv s) sc = tn_s c o a b := if_pos rfl
    have en : ∀ s, s < sc → (fun s => if s = sc then tn_s c o a b else sv s) s = sv s := fun s hs => if_neg (by omega)
    refine K (sc + 1) (fun s => if s = sc then tn_s c o a b else sv s) f_tooMany (nI sc) SC tr ⟨by omega, fun i j hi hj => ?_, fun s hs => ?_, fun s hs e he => ?_, Or.inl b5'⟩ ⟨by omega, en, id⟩ (fun ad h => Or.inl ⟨sc, by omega, rfl, es, h⟩)
    · rw [en i (by omega)]
      by_cases z : j = sc
      · rw [z, es]; exact h2 i (by omega)
      · rw [en j (by omega)]; exact b2 i j hi (by omega)
    · by_cases z : s = sc
      · rw [z, es]; exact hR
      · rw [en s (by omega)]; exact b3 s (by omega)
    · have hN := (tc_N_le W).2
      by_cases z : s = sc
      · rw [z, es]; exact h4 e he
      · rw [en s (by omega), h3 _ (by omega)]; exact b4 s (by omega) e he
theorem xb_prep {post : SX → Prop} {p1 p2 : Int32} (K : post (f_drafted, f_patternHeight, f_rules, f_nodes, f_treeHeight, f_isLaid, f_entries, f_stateCount, f_isWhole, f_tooMany, f_trialLeast, f_covered, f_works, 1, p1, p2, a_draft, a_patternBegin, a_left, a_ruleCost, a_ruleSize, a_rulePart, a_operator, a_firstPart, a_secondPart, a_stack, a_treeBegin, a_helperOperator, a_helperFirst, a_helperSecond, a_chainFrom, a_openParts, a_stateCost, a_leafState, a_leafAdd, a_oneState, a_oneAdd, a_twoState, a_twoAdd, a_trial, a_nodeCost, a_nodeWays, a_cover, a_workEntry, a_workNode, a_nodeState, a_nodeBase)) : wpX_prepare post (f_drafted, f_patternHeight, f_rules, f_nodes, f_treeHeight, f_isLaid, f_entries, f_stateCount, f_isWhole, f_tooMany, f_trialLeast, f_covered, f_works, f_fromStates, f_whereFirst, f_whereSecond, a_draft, a_patternBegin, a_left, a_ruleCost, a_ruleSize, a_rulePart, a_operator, a_firstPart, a_secondPart, a_stack, a_treeBegin, a_helperOperator, a_helperFirst, a_helperSecond, a_chainFrom, a_openParts, a_stateCost, a_leafState, a_leafAdd, a_oneState, a_oneAdd, a_twoState, a_twoAdd, a_trial, a_nodeCost, a_nodeWays, a_cover, a_workEntry, a_workNode, a_nodeState, a_nodeBase) 1 p1 p2 := ⟨rfl, rfl, K⟩
theorem xb_rowP {N sc : Nat} {sv : Nat → Nat → Nat} {SC nc : Nat → Int32} {s : Nat} (Rw : xb_W N sc sv SC) (hs : s < sc) (h20 : sc ≤ 20) : ∃ wh, nI s = nI wh ∧ xt_P 1 SC nc N wh (sv s) :=
  ⟨s, rfl, Or.inr ⟨rfl, by omega, Rw s hs⟩⟩
theorem xb_leaf (W : tc_wf c) (R : xl_R c a_left a_ruleCost a_ruleSize a_rulePart) (A : xl_A c a_helperOperator a_helperFirst a_helperSecond a_chainFrom) {post : Int32 → SX → Prop} {sc : Nat} {sv : Nat → Nat → Nat} (T : xb_T c sc sv f_tooMany a_stateCost a_leafState a_leafAdd a_oneState a_oneAdd a_twoState a_twoAdd) {o : Nat} (ho : o < 2)
    (K : ∀ (sc' : Nat) (sv' : Nat → Nat → Nat) (tm' x tl fs w1 w2 : Int32) (SC LS LA OS OA TS TA tr : Nat → Int32), xb_T c sc' sv' tm' SC LS LA OS OA TS TA → xb_X sc sv f_tooMany sc' sv' tm' → xb_V sc' sv' tm' x (LA o) (tn_s c o tn_z tn_z) (tn_a c o tn_z tn_z) → post x (f_drafted, f_patternHeight, nI (tc_nr c), f_nodes, f_treeHeight, f_isLaid, nI (tc_N c), nI sc', f_isWhole, tm', tl, f_covered, f_works, fs, w1, w2, a_draft, a_patternBegin, a_left, a_ruleCost, a_ruleSize, a_rulePart, a_operator, a_firstPart, a_secondPart, a_stack, a_treeBegin, a_helperOperator, a_helperFirst, a_helperSecond, a_chainFrom, a_openParts, SC, LS, LA, OS, OA, TS, TA, tr, a_nodeCost, a_nodeWays, a_cover, a_workEntry, a_workNode, a_nodeState, a_nodeBase)) :
    wpX_leafStep post (f_drafted, f_patternHeight, nI (tc_nr c), f_nodes, f_treeHeight, f_isLaid, nI (tc_N c), nI sc, f_isWhole, f_tooMany, f_trialLeast, f_covered, f_works, f_fromStates, f_whereFirst, f_whereSecond, a_draft, a_patternBegin, a_left, a_ruleCost, a_ruleSize, a_rulePart, a_operator, a_firstPart, a_secondPart, a_stack, a_treeBegin, a_helperOperator, a_helperFirst, a_helperSecond, a_chainFrom, a_openParts, a_stateCost, a_leafState, a_leafAdd, a_oneState, a_oneAdd, a_twoState, a_twoAdd, a_trial, a_nodeCost, a_nodeWays, a_cover, a_workEntry, a_workNode, a_nodeState, a_nodeBase) (nI o) := by
  obtain ⟨B, L, O, D⟩ := T
  have i1 : vp_in (nI o) 2 := vp_in_nI ho (by decide)
  have e1 : a_leafState (nI o).toNatClampNeg = a_leafState o := by rw [nI_clamp (by omega)]
  refine ⟨i1, ?_⟩
  rw [e1]
  refine br_c (fun z => ?_) (fun z => ⟨i1, K sc sv f_tooMany _ _ _ _ _ _ _ _ _ _ _ _ _ ⟨B, L, O, D⟩ xb_X_rf (xb_E_V (L o ho) z)⟩)
  refine xb_prep (xt_try W R A (o := o) (wa := tn_z) (wb := tn_z) (by omega) (fun _ => Nat.zero_le _) (fun _ => Nat.zero_le _) (fun h => by omega) (fun h => by omega) (fun tr Tr => ?_))
  refine xb_sot2 W B Tr ((tn_R_Q c).1 o ho) (fun sc' sv' tm' x SC tr B' X' V' => ⟨i1, nm_r (tc_upc (by omega) rfl) ⟨i1, nm_r (tc_upc (by omega) rfl) ⟨i1, ?_⟩⟩⟩)
  rw [nI_clamp (by omega), pk_us]
  refine K sc' sv' tm' x _ _ _ _ _ _ _ _ _ _ _ _ ⟨B', fun q hq => ?_, xb_1_x X' O, xb_2_x X' D⟩ X' (V' _ pk_us)
  by_cases y : q = o
  · rw [y, pk_us, pk_us]; exact xb_V_E (V' _ rfl)
  · rw [pk_un y, pk_un y]; exact xb_E_x X' (L q hq)
theorem xb_one (W : tc_wf c) (R : xl_R c a_left a_ruleCost a_ruleSize a_rulePart) (A : xl_A c a_helperOperator a_helperFirst a_helperSecond a_chainFrom) {post : Int32 → SX → Prop} {sc : Nat} {sv : Nat → Nat → Nat} (T : xb_T c sc sv f_tooMany a_stateCost a_leafState a_leafAdd a_oneState a_oneAdd a_twoState a_twoAdd) {o s : Nat} (ho : o < 2) (hs : s < sc)
    (K : ∀ (sc' : Nat) (sv' : Nat → Nat → Nat) (tm' x tl fs w1 w2 : Int32) (SC LS LA OS OA TS TA tr : Nat → Int32), xb_T c sc' sv' tm' SC LS LA OS OA TS TA → xb_X sc sv f_tooMany sc' sv' tm' → xb_V sc' sv' tm' x (OA (22 * o + s)) (tn_s c (o + 2) (sv s) tn_z) (tn_a c (o + 2) (sv s) tn_z) → post x (f_drafted, f_patternHeight, nI (tc_nr c), f_nodes, f_treeHeight, f_isLaid, nI (tc_N c), nI sc', f_isWhole, tm', tl, f_covered, f_works, fs, w1, w2, a_draft, a_patternBegin, a_left, a_ruleCost, a_ruleSize, a_rulePart, a_operator, a_firstPart, a_secondPart, a_stack, a_treeBegin, a_helperOperator, a_helperFirst, a_helperSecond, a_chainFrom, a_openParts, SC, LS, LA, OS, OA, TS, TA, tr, a_nodeCost, a_nodeWays, a_cover, a_workEntry, a_workNode, a_nodeState, a_nodeBase)) :
    wpX_oneStep post (f_drafted, f_patternHeight, nI (tc_nr c), f_nodes, f_treeHeight, f_isLaid, nI (tc_N c), nI sc, f_isWhole, f_tooMany, f_trialLeast, f_covered, f_works, f_fromStates, f_whereFirst, f_whereSecond, a_draft, a_patternBegin, a_left, a_ruleCost, a_ruleSize, a_rulePart, a_operator, a_firstPart, a_secondPart, a_stack, a_treeBegin, a_helperOperator, a_helperFirst, a_helperSecond, a_chainFrom, a_openParts, a_stateCost, a_leafState, a_leafAdd, a_oneState, a_oneAdd, a_twoState, a_twoAdd, a_trial, a_nodeCost, a_nodeWays, a_cover, a_workEntry, a_workNode, a_nodeState, a_nodeBase) (nI (o + 2)) (nI s) := by
  obtain ⟨B, L, O, D⟩ := T
  have h20 := B.1
  have ex : (22 : Int32) * (nI (o + 2) - 2) + nI s = nI (22 * o + s) := by
    rw [show nI (o + 2) - 2 = nI o from pk_sub (a := o + 2) (b := 2) (by omega), show (22 : Int32) = nI 22 from rfl, pk_mul, nI_add]
  have i1 : vp_in (nI (22 * o + s)) 44 := vp_in_nI (by omega) (by decide)
  have e1 : a_oneState (nI (22 * o + s)).toNatClampNeg = a_oneState (22 * o + s) := by rw [nI_clamp (by omega)]
  refine nm_r ex ⟨i1, ?_⟩
  rw [e1]
  refine br_c (fun z => ?_) (fun z => ⟨i1, K sc sv f_tooMany _ _ _ _ _ _ _ _ _ _ _ _ _ ⟨B, L, O, D⟩ xb_X_rf (xb_E_V ((O o ho s (by omega)).1 hs) z)⟩)
  refine xb_prep (xt_try W R A (o := o + 2) (wa := sv s) (wb := tn_z) (by omega) (tn_R_le (B.2.2.1 s hs)) (fun _ => Nat.zero_le _) (fun h => xb_rowP B.2.2.2.1 hs h20) (fun h => by omega) (fun tr Tr => ?_))
  refine xb_sot2 W B Tr ((tn_R_Q c).2.1 (o + 2) (by omega) (by omega) _ (B.2.2.1 s hs)) (fun sc' sv' tm' x SC tr B' X' V' => ⟨i1, nm_r (tc_upc (by omega) rfl) ⟨i1, nm_r (tc_upc (by omega) rfl) ⟨i1, ?_⟩⟩⟩)
  rw [nI_clamp (by omega), pk_us]
  refine K sc' sv' tm' x _ _ _ _ _ _ _ _ _ _ _ _ ⟨B', xb_L_x X' L, fun q hq u hu => ?_, xb_2_x X' D⟩ X' (V' _ pk_us)
  have hx := xb_1_x X' O q hq u hu
  have := X'.1
  by_cases y : 22 * q + u = 22 * o + s
  · have y1 : q = o := by omega
    have y2 : u = s := by omega
    subst y1; subst y2
    rw [pk_us, pk_us, X'.2.1 u hs]
    exact ⟨fun _ => xb_V_E (V' _ rfl), fun w => by omega⟩
  · rw [pk_un y, pk_un y]; exact hx
theorem xb_two (W : tc_wf c) (R : xl_R c a_left a_ruleCost a_ruleSize a_rulePart) (A : xl_A c a_helperOperator a_helperFirst a_helperSecond a_chainFrom) {post : Int32 → SX → Prop} {sc : Nat} {sv : Nat → Nat → Nat} (T : xb_T c sc sv f_tooMany a_stateCost a_leafState a_leafAdd a_oneState a_oneAdd a_twoState a_twoAdd) {o s t : Nat} (ho : o < 2) (hs : s < sc) (ht : t < sc)
    (K : ∀ (sc' : Nat) (sv' : Nat → Nat → Nat) (tm' x tl fs w1 w2 : Int32) (SC LS LA OS OA TS TA tr : Nat → Int32), xb_T c sc' sv' tm' SC LS LA OS OA TS TA → xb_X sc sv f_tooMany sc' sv' tm' → xb_V sc' sv' tm' x (TA (484 * o + 22 * s + t)) (tn_s c (o + 4) (sv s) (sv t)) (tn_a c (o + 4) (sv s) (sv t)) → post x (f_drafted, f_patternHeight, nI (tc_nr c), f_nodes, f_treeHeight, f_isLaid, nI (tc_N c), nI sc', f_isWhole, tm', tl, f_covered, f_works, fs, w1, w2, a_draft, a_patternBegin, a_left, a_ruleCost, a_ruleSize, a_rulePart, a_operator, a_firstPart, a_secondPart, a_stack, a_treeBegin, a_helperOperator, a_helperFirst, a_helperSecond, a_chainFrom, a_openParts, SC, LS, LA, OS, OA, TS, TA, tr, a_nodeCost, a_nodeWays, a_cover, a_workEntry, a_workNode, a_nodeState, a_nodeBase)) :
    wpX_twoStep post (f_drafted, f_patternHeight, nI (tc_nr c), f_nodes, f_treeHeight, f_isLaid, nI (tc_N c), nI sc, f_isWhole, f_tooMany, f_trialLeast, f_covered, f_works, f_fromStates, f_whereFirst, f_whereSecond, a_draft, a_patternBegin, a_left, a_ruleCost, a_ruleSize, a_rulePart, a_operator, a_firstPart, a_secondPart, a_stack, a_treeBegin, a_helperOperator, a_helperFirst, a_helperSecond, a_chainFrom, a_openParts, a_stateCost, a_leafState, a_leafAdd, a_oneState, a_oneAdd, a_twoState, a_twoAdd, a_trial, a_nodeCost, a_nodeWays, a_cover, a_workEntry, a_workNode, a_nodeState, a_nodeBase) (nI (o + 4)) (nI s) (nI t) := by
  obtain ⟨B, L, O, D⟩ := T
  have h20 := B.1
  have ex : (484 : Int32) * (nI (o + 4) - 4) + 22 * nI s + nI t = nI (484 * o + 22 * s + t) := by
    rw [show nI (o + 4) - 4 = nI o from pk_sub (a := o + 4) (b := 4) (by omega), show (484 : Int32) = nI 484 from rfl, show (22 : Int32) = nI 22 from rfl, pk_mul, pk_mul, nI_add, nI_add]
  have i1 : vp_in (nI (484 * o + 22 * s + t)) 968 := vp_in_nI (by omega) (by decide)
  have e1 : a_twoState (nI (484 * o + 22 * s + t)).toNatClampNeg = a_twoState (484 * o + 22 * s + t) := by rw [nI_clamp (by omega)]
  refine nm_r ex ⟨i1, ?_⟩
  rw [e1]
  refine br_c (fun z => ?_) (fun z => ⟨i1, K sc sv f_tooMany _ _ _ _ _ _ _ _ _ _ _ _ _ ⟨B, L, O, D⟩ xb_X_rf (xb_E_V ((D o ho s (by omega) t (by omega)).1 hs ht) z)⟩)
  refine xb_prep (xt_try W R A (o := o + 4) (wa := sv s) (wb := sv t) (by omega) (tn_R_le (B.2.2.1 s hs)) (tn_R_le (B.2.2.1 t ht)) (fun h => xb_rowP B.2.2.2.1 hs h20) (fun h => xb_rowP B.2.2.2.1 ht h20) (fun tr Tr => ?_))
  refine xb_sot2 W B Tr ((tn_R_Q c).2.2 (o + 4) (by omega) (by omega) _ _ (B.2.2.1 s hs) (B.2.2.1 t ht)) (fun sc' sv' tm' x SC tr B' X' V' => ⟨i1, nm_r (tc_upc (by omega) rfl) ⟨i1, nm_r (tc_upc (by omega) rfl) ⟨i1, ?_⟩⟩⟩)
  rw [nI_clamp (by omega), pk_us]
  refine K sc' sv' tm' x _ _ _ _ _ _ _ _ _ _ _ _ ⟨B', xb_L_x X' L, xb_1_x X' O, fun q hq u hu w hw => ?_⟩ X' (V' _ pk_us)
  have hx := xb_2_x X' D q hq u hu w hw
  have := X'.1
  by_cases y : 484 * q + 22 * u + w = 484 * o + 22 * s + t
  · have y1 : q = o := by omega
    have y2 : u = s := by omega
    have y3 : w = t := by omega
    subst y1; subst y2; subst y3
    rw [pk_us, pk_us, X'.2.1 u hs, X'.2.1 w ht]
    exact ⟨fun _ _ => xb_V_E (V' _ rfl), fun w => by omega⟩
  · rw [pk_un y, pk_un y]; exact hx
end
end
section
/-! X: findStates -/
section
variable {f_drafted f_patternHeight f_rules f_nodes f_treeHeight f_isLaid f_entries f_stateCount f_isWhole f_tooMany f_trialLeast f_covered f_works f_fromStates f_whereFirst f_whereSecond : Int32} {a_draft a_patternBegin a_left a_ruleCost a_ruleSize a_rulePart a_operator a_firstPart a_secondPart a_stack a_treeBegin a_helperOperator a_helperFirst a_helperSecond a_chainFrom a_openParts a_stateCost a_leafState a_leafAdd a_oneState a_oneAdd a_twoState a_twoAdd a_trial a_nodeCost a_nodeWays a_cover a_workEntry a_workNode a_nodeState a_nodeBase : Nat → Int32} {c : tc_C}
def xf_H (sc : Nat) (sv : Nat → Nat → Nat) (w : Nat → Nat) : Prop := ∃ s, s < sc ∧ sv s = w
theorem xf_H_x {sc sc' : Nat} {sv sv' : Nat → Nat → Nat} {tm tm' : Int32} {w : Nat → Nat} (X : xb_X sc sv tm sc' sv' tm') (h : xf_H sc sv w) : xf_H sc' sv' w := by
  obtain ⟨s, h1, h2⟩ := h
  exact ⟨s, Nat.lt_of_lt_of_le h1 X.1, (X.2.1 s h1).trans h2⟩
theorem xf_H_V {sc : Nat} {sv : Nat → Nat → Nat} {tm x ad : Int32} {v : Nat → Nat} {l : Nat} (h : xb_V sc sv tm x ad v l) : tm = 1 ∨ xf_H sc sv v := by
  rcases h with ⟨s, h1, h2, h3, h4⟩ | h
  · exact Or.inr ⟨s, h1, h3⟩
  · exact Or.inl h.2
def xf_D (c : tc_C) (sc : Nat) (sv : Nat → Nat → Nat) (tm : Int32) (k : Nat) : Prop := tm = 1 ∨ ((∀ o, o < 2 → xf_H sc sv (tn_s c o tn_z tn_z)) ∧ (∀ o, o < 2 → ∀ i, i < k → xf_H sc sv (tn_s c (o + 2) (sv i) tn_z)) ∧
  ∀ o, o < 2 → ∀ i, i < k → ∀ j, j < k → xf_H sc sv (tn_s c (o + 4) (sv i) (sv j)))
def xf_E (c : tc_C) (sc : Nat) (sv : Nat → Nat → Nat) (tm : Int32) (s t : Nat) : Prop := tm = 1 ∨ ((∀ o, o < 2 → xf_H sc sv (tn_s c (o + 2) (sv s) tn_z)) ∧ ∀ o, o < 2 → ∀ j, j < t → xf_H sc sv (tn_s c (o + 4) (sv s) (sv j)) ∧ xf_H sc sv (tn_s c (o + 4) (sv j) (sv s)))
theorem xf_D_x {sc sc' : Nat} {sv sv' : Nat → Nat → Nat} {tm tm' : Int32} {k : Nat} (hk : k ≤ sc) (X : xb_X sc sv tm sc' sv' tm') (h : xf_D c sc sv tm k) : xf_D c sc' sv' tm' k := by
  rcases h with h | ⟨h1, h2, h3⟩
  · exact Or.inl (X.2.2 h)
  · refine Or.inr ⟨fun o ho => xf_H_x X (h1 o ho), fun o ho i hi => ?_, fun o ho i hi j hj => ?_⟩
    · rw [X.2.1 i (by omega)]; exact xf_H_x X (h2 o ho i hi)
    · rw [X.2.1 i (by omega), X.2.1 j (by omega)]; exact xf_H_x X (h3 o ho i hi j hj)
theorem xf_E_x {sc sc' : Nat} {sv sv' : Nat → Nat → Nat} {tm tm' : Int32} {s t : Nat} (hs : s < sc) (ht : t ≤ sc) (X : xb_X sc sv tm sc' sv' tm') (h : xf_E c sc sv tm s t) : xf_E c sc' sv' tm' s t := by
  rcases h with h | ⟨h1, h2⟩
  · exact Or.inl (X.2.2 h)
  · refine Or.inr ⟨fun o ho => ?_, fun o ho j hj => ?_⟩
    · rw [X.2.1 s hs]; exact xf_H_x X (h1 o ho)
    · rw [X.2.1 s hs, X.2.1 j (by omega)]; exact ⟨xf_H_x X (h2 o ho j hj).1, xf_H_x X (h2 o ho j hj).2⟩
theorem xf_D_s {sc : Nat} {sv : Nat → Nat → Nat} {tm : Int32} {s : Nat} (h : xf_D c sc sv tm s) (h' : xf_E c sc sv tm s (s + 1)) : xf_D c sc sv tm (s + 1) := by
  rcases h with h | ⟨h1, h2, h3⟩
  · exact Or.inl h
  · rcases h' with h' | ⟨e1, e2⟩
    · exact Or.inl h'
    · refine Or.inr ⟨h1, fun o ho i hi => ?_, fun o ho i hi j hj => ?_⟩
      · by_cases z : i = s
        · rw [z]; exact e1 o ho
        · exact h2 o ho i (by omega)
      · by_cases z : i = s
        · rw [z]; exact (e2 o ho j hj).1
        · by_cases y : j = s
          · rw [y]; exact (e2 o ho i hi).2
          · exact h3 o ho i (by omega) j (by omega)
theorem xf_D_K {sc : Nat} {sv : Nat → Nat → Nat} {tm : Int32} (h : xf_D c sc sv tm sc) : tm = 1 ∨ tn_K c sc sv := by
  rcases h with h | ⟨h1, h2, h3⟩
  · exact Or.inl h
  · refine Or.inr ⟨fun o ho => h1 o ho, fun o o1 o2 a ha => ?_, fun o o1 o2 a b ha hb => ?_⟩
    · obtain ⟨i, hi, ei⟩ := ha
      have := h2 (o - 2) (by omega) i hi
      rw [show o - 2 + 2 = o by omega, ei] at this
      exact this
    · obtain ⟨i, hi, ei⟩ := ha
      obtain ⟨j, hj, ej⟩ := hb
      have := h3 (o - 4) (by omega) i hi j hj
      rw [show o - 4 + 4 = o by omega, ei, ej] at this
      exact this
theorem xf_57 (W : tc_wf c) (R : xl_R c a_left a_ruleCost a_ruleSize a_rulePart) (A : xl_A c a_helperOperator a_helperFirst a_helperSecond a_chainFrom) {post : SX → Prop} {J : Int32 → Int32 → Int32 → Int32 → Int32 → Int32 → Int32 → Int32 → Int32 → Int32 → Int32 → Int32 → Int32 → Int32 → Int32 → Int32 → Int32 → (Nat → Int32) → (Nat → Int32) → (Nat → Int32) → (Nat → Int32) → (Nat → Int32) → (Nat → Int32) → (Nat → Int32) → (Nat → Int32) → (Nat → Int32) → (Nat → Int32) → (Nat → Int32) → (Nat → Int32) → (Nat → Int32) → (Nat → Int32) → (Nat → Int32) → (Nat → Int32) → (Nat → Int32) → (Nat → Int32) → (Nat → Int32) → (Nat → Int32) → (Nat → Int32) → (Nat → Int32) → (Nat → Int32) → (Nat → Int32) → (Nat → Int32) → (Nat → Int32) → (Nat → Int32) → (Nat → Int32) → (Nat → Int32) → (Nat → Int32) → (Nat → Int32) → Prop} {s : Nat} (hs : s < 20)
    (K : ∀ (sc : Nat) (sv : Nat → Nat → Nat) (tm tl fs w1 w2 : Int32) (SC LS LA OS OA TS TA tr : Nat → Int32), xb_T c sc sv tm SC LS LA OS OA TS TA → s < sc → xf_D c sc sv tm s → xf_E c sc sv tm s (s + 1) → J (nI (s + 1)) f_drafted f_patternHeight (nI (tc_nr c)) f_nodes f_treeHeight f_isLaid (nI (tc_N c)) (nI sc) f_isWhole tm tl f_covered f_works fs w1 w2 a_draft a_patternBegin a_left a_ruleCost a_ruleSize a_rulePart a_operator a_firstPart a_secondPart a_stack a_treeBegin a_helperOperator a_helperFirst a_helperSecond a_chainFrom a_openParts SC LS LA OS OA TS TA tr a_nodeCost a_nodeWays a_cover a_workEntry a_workNode a_nodeState a_nodeBase) :
    ∀ d t, t + d = s + 1 → ∀ (sc : Nat) (sv : Nat → Nat → Nat) (tm tl fs w1 w2 : Int32) (SC LS LA OS OA TS TA tr : Nat → Int32), xb_T c sc sv tm SC LS LA OS OA TS TA → s < sc → xf_D c sc sv tm s → xf_E c sc sv tm s t → ∀ n, d < n → wX_findStates_57 post J (nI s) n (nI t) f_drafted f_patternHeight (nI (tc_nr c)) f_nodes f_treeHeight f_isLaid (nI (tc_N c)) (nI sc) f_isWhole tm tl f_covered f_works fs w1 w2 a_draft a_patternBegin a_left a_ruleCost a_ruleSize a_rulePart a_operator a_firstPart a_secondPart a_stack a_treeBegin a_helperOperator a_helperFirst a_helperSecond a_chainFrom a_openParts SC LS LA OS OA TS TA tr a_nodeCost a_nodeWays a_cover a_workEntry a_workNode a_nodeState a_nodeBase := by
  intro d
  induction d with
  | zero =>
    intro t ht sc sv tm tl fs w1 w2 SC LS LA OS OA TS TA tr T hsc D E n hn
    obtain ⟨n, rfl⟩ : ∃ m, n = m + 1 := ⟨n - 1, by omega⟩
    have et : t = s + 1 := by omega
    subst et
    exact pk_lt s (s + 1) (fun _ => nm_r (nI_1 s) (K sc sv tm tl fs w1 w2 SC LS LA OS OA TS TA tr T hsc D E)) (fun z => by omega)
  | succ d ih =>
    intro t ht sc sv tm tl fs w1 w2 SC LS LA OS OA TS TA tr T hsc D E n hn
    obtain ⟨n, rfl⟩ : ∃ m, n = m + 1 := ⟨n - 1, by omega⟩
    refine pk_lt s t (fun z => by omega) (fun _ => br_c (fun z => ?_) (fun z => nm_r (nI_1 s) (K sc sv tm tl fs w1 w2 SC LS LA OS OA TS TA tr T hsc D (Or.inl ?_))))
    · refine xb_two W R A T (o := 0) (s := s) (t := t) (by omega) hsc (by omega) (fun sc1 sv1 tm1 x1 tl1 fs1 w11 w21 SC1 LS1 LA1 OS1 OA1 TS1 TA1 tr1 T1 X1 V1 => ?_)
      refine xb_two W R A T1 (o := 0) (s := t) (t := s) (by omega) (by have := X1.1; omega) (by have := X1.1; omega) (fun sc2 sv2 tm2 x2 tl2 fs2 w12 w22 SC2 LS2 LA2 OS2 OA2 TS2 TA2 tr2 T2 X2 V2 => ?_)
      have X12 := xb_X_tr X1 X2
      refine xb_two W R A T2 (o := 1) (s := s) (t := t) (by omega) (by have := X12.1; omega) (by have := X12.1; omega) (fun sc3 sv3 tm3 x3 tl3 fs3 w13 w23 SC3 LS3 LA3 OS3 OA3 TS3 TA3 tr3 T3 X3 V3 => ?_)
      have X13 := xb_X_tr X12 X3
      refine xb_two W R A T3 (o := 1) (s := t) (t := s) (by omega) (by have := X13.1; omega) (by have := X13.1; omega) (fun sc4 sv4 tm4 x4 tl4 fs4 w14 w24 SC4 LS4 LA4 OS4 OA4 TS4 TA4 tr4 T4 X4 V4 => ?_)
      have X14 := xb_X_tr X13 X4
      refine nm_r (nI_1 t) (ih (t + 1) (by omega) sc4 sv4 tm4 tl4 fs4 w14 w24 SC4 LS4 LA4 OS4 OA4 TS4 TA4 tr4 T4 (by have := X14.1; omega) (xf_D_x (by omega) X14 D) ?_ n (by omega))
      have q1 := xf_H_V (xb_V_x (xb_X_tr X2 (xb_X_tr X3 X4)) V1)
      have q2 := xf_H_V (xb_V_x (xb_X_tr X3 X4) V2)
      have q3 := xf_H_V (xb_V_x X4 V3)
      have q4 := xf_H_V V4
      have es := X14.2.1 s hsc
      have et := X14.2.1 t (by omega)
      rw [X1.2.1 s hsc, X1.2.1 t (by omega)] at q2
      rw [X12.2.1 s hsc, X12.2.1 t (by omega)] at q3
      rw [X13.2.1 s hsc, X13.2.1 t (by omega)] at q4
      rw [← es, ← et] at q1 q2 q3 q4
      rcases xf_E_x hsc (by omega) X14 E with h | ⟨e1, e2⟩
      · exact Or.inl h
      · rcases q1 with q1 | q1
        · exact Or.inl q1
        · rcases q2 with q2 | q2
          · exact Or.inl q2
          · rcases q3 with q3 | q3
            · exact Or.inl q3
            · rcases q4 with q4 | q4
              · exact Or.inl q4
              · refine Or.inr ⟨e1, fun o ho j hj => ?_⟩
                by_cases z : j = t
                · subst z
                  by_cases y : o = 0
                  · subst y; exact ⟨q1, q2⟩
                  · have : o = 1 := by omega
                    subst this; exact ⟨q3, q4⟩
                · exact e2 o ho j (by omega)
    · rcases T.1.2.2.2.2 with h | h
      · exact absurd h z
      · exact h.1
theorem xf_26 (W : tc_wf c) (R : xl_R c a_left a_ruleCost a_ruleSize a_rulePart) (A : xl_A c a_helperOperator a_helperFirst a_helperSecond a_chainFrom) {post : SX → Prop}
    (K : ∀ (sc : Nat) (sv : Nat → Nat → Nat) (tm tl fs w1 w2 : Int32) (SC LS LA OS OA TS TA tr : Nat → Int32), xb_T c sc sv tm SC LS LA OS OA TS TA → (tm = 1 ∨ tn_K c sc sv) → post (f_drafted, f_patternHeight, nI (tc_nr c), f_nodes, f_treeHeight, f_isLaid, nI (tc_N c), nI sc, 1, tm, tl, f_covered, f_works, fs, w1, w2, a_draft, a_patternBegin, a_left, a_ruleCost, a_ruleSize, a_rulePart, a_operator, a_firstPart, a_secondPart, a_stack, a_treeBegin, a_helperOperator, a_helperFirst, a_helperSecond, a_chainFrom, a_openParts, SC, LS, LA, OS, OA, TS, TA, tr, a_nodeCost, a_nodeWays, a_cover, a_workEntry, a_workNode, a_nodeState, a_nodeBase)) :
    ∀ d s, s + d = 21 → ∀ (sc : Nat) (sv : Nat → Nat → Nat) (tm tl fs w1 w2 : Int32) (SC LS LA OS OA TS TA tr : Nat → Int32), xb_T c sc sv tm SC LS LA OS OA TS TA → s ≤ sc → xf_D c sc sv tm s → ∀ n, d < n → wX_findStates_26 post n (nI s) f_drafted f_patternHeight (nI (tc_nr c)) f_nodes f_treeHeight f_isLaid (nI (tc_N c)) (nI sc) f_isWhole tm tl f_covered f_works fs w1 w2 a_draft a_patternBegin a_left a_ruleCost a_ruleSize a_rulePart a_operator a_firstPart a_secondPart a_stack a_treeBegin a_helperOperator a_helperFirst a_helperSecond a_chainFrom a_openParts SC LS LA OS OA TS TA tr a_nodeCost a_nodeWays a_cover a_workEntry a_workNode a_nodeState a_nodeBase := by
  intro d
  induction d with
  | zero =>
    intro s hs sc sv tm tl fs w1 w2 SC LS LA OS OA TS TA tr T hsc D n hn
    have := T.1.1
    omega
  | succ d ih =>
    intro s hs sc sv tm tl fs w1 w2 SC LS LA OS OA TS TA tr T hsc D n hn
    obtain ⟨n, rfl⟩ : ∃ m, n = m + 1 := ⟨n - 1, by omega⟩
    have h20 := T.1.1
    refine pk_le sc s (fun z => K sc sv tm tl fs w1 w2 SC LS LA OS OA TS TA tr T (xf_D_K ?_)) (fun z => br_c (fun z0 => ?_) (fun z0 => K sc sv tm tl fs w1 w2 SC LS LA OS OA TS TA tr T (Or.inl ?_)))
    · rw [show sc = s by omega] at D ⊢
      exact D
    · refine xb_one W R A T (o := 0) (s := s) (by omega) (by omega) (fun sc1 sv1 tm1 x1 tl1 fs1 w11 w21 SC1 LS1 LA1 OS1 OA1 TS1 TA1 tr1 T1 X1 V1 => ?_)
      refine xb_one W R A T1 (o := 1) (s := s) (by omega) (by have := X1.1; omega) (fun sc2 sv2 tm2 x2 tl2 fs2 w12 w22 SC2 LS2 LA2 OS2 OA2 TS2 TA2 tr2 T2 X2 V2 => ⟨s + 2, ?_⟩)
      have X12 := xb_X_tr X1 X2
      refine xf_57 W R A (s := s) (by omega) (fun sc sv tm tl fs w1 w2 SC LS LA OS OA TS TA tr T hsc D E => ?_) (s + 1) 0 (by omega) sc2 sv2 tm2 tl2 fs2 w12 w22 SC2 LS2 LA2 OS2 OA2 TS2 TA2 tr2 T2 (by have := X12.1; omega) (xf_D_x hsc X12 D) ?_ (s + 2) (by omega)
      · exact ih (s + 1) (by omega) sc sv tm tl fs w1 w2 SC LS LA OS OA TS TA tr T (by omega) (xf_D_s D E) n (by omega)
      · have q1 := xf_H_V (xb_V_x X2 V1)
        have q2 := xf_H_V V2
        rw [X1.2.1 s (by omega)] at q2
        rw [← X12.2.1 s (by omega)] at q1 q2
        rcases q1 with q1 | q1
        · exact Or.inl q1
        · rcases q2 with q2 | q2
          · exact Or.inl q2
          · refine Or.inr ⟨fun o ho => ?_, fun o ho j hj => absurd hj (Nat.not_lt_zero _)⟩
            by_cases y : o = 0
            · subst y; exact q1
            · have : o = 1 := by omega
              subst this; exact q2
    · rcases T.1.2.2.2.2 with h | h
      · exact absurd h z0
      · exact h.1
/-- the state once it is laid out; fw: the whole is known -/
def xz_W (c : tc_C) (sc : Nat) (sv : Nat → Nat → Nat) (tm fw : Int32) : Prop := fw = 0 ∨ (fw = 1 ∧ (tm = 1 ∨ tn_K c sc sv))
def xz_H (c : tc_C) (isLaid entries stateCount isWhole tooMany : Int32) (ho hf hs ch SC LS LA OS OA TS TA : Nat → Int32) : Prop :=
  isLaid = 0 ∨ (isLaid = 1 ∧ entries = nI (tc_N c) ∧ ∃ sc sv, stateCount = nI sc ∧ xl_A c ho hf hs ch ∧ xb_T c sc sv tooMany SC LS LA OS OA TS TA ∧ xz_W c sc sv tooMany isWhole)
theorem xb_T_0 (W : tc_wf c) {SC LS LA OS OA TS TA : Nat → Int32} (h1 : ∀ j, j < 2 → LS j = -1) (h2 : ∀ j, j < 44 → OS j = -1) (h3 : ∀ j, j < 968 → TS j = -1) : xb_T c 0 (fun _ _ => 0) 0 SC LS LA OS OA TS TA :=
  ⟨⟨by omega, fun i j _ h => absurd h (Nat.not_lt_zero _), fun s h => absurd h (Nat.not_lt_zero _), fun s h => absurd h (Nat.not_lt_zero _), Or.inl rfl⟩,
   fun o ho => Or.inl (h1 o ho), fun o ho s hs => ⟨fun h => absurd h (Nat.not_lt_zero _), fun _ => h2 _ (by omega)⟩, fun o ho s hs t ht => ⟨fun h => absurd h (Nat.not_lt_zero _), fun _ => h3 _ (by omega)⟩⟩
theorem xz_lay (W : tc_wf c) (R : xl_R c a_left a_ruleCost a_ruleSize a_rulePart) (H : xz_H c f_isLaid f_entries f_stateCount f_isWhole f_tooMany a_helperOperator a_helperFirst a_helperSecond a_chainFrom a_stateCost a_leafState a_leafAdd a_oneState a_oneAdd a_twoState a_twoAdd) {post : SX → Prop}
    (K : ∀ (sc : Nat) (sv : Nat → Nat → Nat) (fw tm : Int32) (ho hf hs ch oq LS OS TS : Nat → Int32), xl_A c ho hf hs ch → xb_T c sc sv tm a_stateCost LS a_leafAdd OS a_oneAdd TS a_twoAdd → xz_W c sc sv tm fw → ((f_isLaid = 0 ∧ fw = 0) ∨ (f_isLaid = 1 ∧ fw = f_isWhole)) →
      post (f_drafted, f_patternHeight, nI (tc_nr c), f_nodes, f_treeHeight, 1, nI (tc_N c), nI sc, fw, tm, f_trialLeast, f_covered, f_works, f_fromStates, f_whereFirst, f_whereSecond, a_draft, a_patternBegin, a_left, a_ruleCost, a_ruleSize, a_rulePart, a_operator, a_firstPart, a_secondPart, a_stack, a_treeBegin, ho, hf, hs, ch, oq, a_stateCost, LS, a_leafAdd, OS, a_oneAdd, TS, a_twoAdd, a_trial, a_nodeCost, a_nodeWays, a_cover, a_workEntry, a_workNode, a_nodeState, a_nodeBase)) :
    wpX_layOut post (f_drafted, f_patternHeight, nI (tc_nr c), f_nodes, f_treeHeight, f_isLaid, f_entries, f_stateCount, f_isWhole, f_tooMany, f_trialLeast, f_covered, f_works, f_fromStates, f_whereFirst, f_whereSecond, a_draft, a_patternBegin, a_left, a_ruleCost, a_ruleSize, a_rulePart, a_operator, a_firstPart, a_secondPart, a_stack, a_treeBegin, a_helperOperator, a_helperFirst, a_helperSecond, a_chainFrom, a_openParts, a_stateCost, a_leafState, a_leafAdd, a_oneState, a_oneAdd, a_twoState, a_twoAdd, a_trial, a_nodeCost, a_nodeWays, a_cover, a_workEntry, a_workNode, a_nodeState, a_nodeBase) := by
  rcases H with h | ⟨h, h1, sc, sv, h2, h3, h4, h5⟩
  · exact xl_out W R h (fun ho hf hs ch oq ls os ts A1 k1 k2 k3 => K 0 (fun _ _ => 0) 0 0 ho hf hs ch oq ls os ts A1 (xb_T_0 W k1 k2 k3) (Or.inl rfl) (Or.inl ⟨h, rfl⟩))
  · subst h; subst h1; subst h2
    exact br_f (by decide) (K sc sv f_isWhole f_tooMany _ _ _ _ _ _ _ _ h3 h4 h5 (Or.inr ⟨rfl, rfl⟩))
theorem xf_find (W : tc_wf c) (R : xl_R c a_left a_ruleCost a_ruleSize a_rulePart) (H : xz_H c f_isLaid f_entries f_stateCount f_isWhole f_tooMany a_helperOperator a_helperFirst a_helperSecond a_chainFrom a_stateCost a_leafState a_leafAdd a_oneState a_oneAdd a_twoState a_twoAdd) {post : SX → Prop}
    (K : ∀ (sc : Nat) (sv : Nat → Nat → Nat) (tm tl fs w1 w2 : Int32) (ho hf hs ch oq SC LS LA OS OA TS TA tr : Nat → Int32), xl_A c ho hf hs ch → xb_T c sc sv tm SC LS LA OS OA TS TA → (tm = 1 ∨ tn_K c sc sv) → ((f_isLaid = 1 ∧ f_isWhole = 1) ∨ (f_isLaid = 0 ∨ f_isWhole = 0)) →
      post (f_drafted, f_patternHeight, nI (tc_nr c), f_nodes, f_treeHeight, 1, nI (tc_N c), nI sc, 1, tm, tl, f_covered, f_works, fs, w1, w2, a_draft, a_patternBegin, a_left, a_ruleCost, a_ruleSize, a_rulePart, a_operator, a_firstPart, a_secondPart, a_stack, a_treeBegin, ho, hf, hs, ch, oq, SC, LS, LA, OS, OA, TS, TA, tr, a_nodeCost, a_nodeWays, a_cover, a_workEntry, a_workNode, a_nodeState, a_nodeBase)) :
    wpX_findStates post (f_drafted, f_patternHeight, nI (tc_nr c), f_nodes, f_treeHeight, f_isLaid, f_entries, f_stateCount, f_isWhole, f_tooMany, f_trialLeast, f_covered, f_works, f_fromStates, f_whereFirst, f_whereSecond, a_draft, a_patternBegin, a_left, a_ruleCost, a_ruleSize, a_rulePart, a_operator, a_firstPart, a_secondPart, a_stack, a_treeBegin, a_helperOperator, a_helperFirst, a_helperSecond, a_chainFrom, a_openParts, a_stateCost, a_leafState, a_leafAdd, a_oneState, a_oneAdd, a_twoState, a_twoAdd, a_trial, a_nodeCost, a_nodeWays, a_cover, a_workEntry, a_workNode, a_nodeState, a_nodeBase) := by
  refine xz_lay W R H (fun sc sv fw tm ho hf hs ch oq LS OS TS A T Wh Fw => ?_)
  refine br_c (fun z => ?_) (fun z => ?_)
  · have hw : f_isLaid = 0 ∨ f_isWhole = 0 := by
      rcases Fw with h | h
      · exact Or.inl h.1
      · exact Or.inr (h.2.symm.trans z)
    refine xb_leaf W R A T (o := 0) (by omega) (fun sc1 sv1 tm1 x1 tl1 fs1 w11 w21 SC1 LS1 LA1 OS1 OA1 TS1 TA1 tr1 T1 X1 V1 => ?_)
    refine xb_leaf W R A T1 (o := 1) (by omega) (fun sc2 sv2 tm2 x2 tl2 fs2 w12 w22 SC2 LS2 LA2 OS2 OA2 TS2 TA2 tr2 T2 X2 V2 => ⟨22, ?_⟩)
    refine xf_26 W R A (fun sc sv tm tl fs w1 w2 SC LS LA OS OA TS TA tr T k => K sc sv tm tl fs w1 w2 ho hf hs ch oq SC LS LA OS OA TS TA tr A T k (Or.inr hw)) 21 0 rfl sc2 sv2 tm2 tl2 fs2 w12 w22 SC2 LS2 LA2 OS2 OA2 TS2 TA2 tr2 T2 (Nat.zero_le _) ?_ 22 (by omega)
    have q1 := xf_H_V (xb_V_x X2 V1)
    have q2 := xf_H_V V2
    rcases q1 with q1 | q1
    · exact Or.inl q1
    · rcases q2 with q2 | q2
      · exact Or.inl q2
      · refine Or.inr ⟨fun o ho => ?_, fun o ho j hj => absurd hj (Nat.not_lt_zero _), fun o ho j hj => absurd hj (Nat.not_lt_zero _)⟩
        by_cases y : o = 0
        · subst y; exact q1
        · have : o = 1 := by omega
          subst this; exact q2
  · rcases Wh with h | ⟨h, h'⟩
    · exact absurd h z
    · subst h
      refine K sc sv tm _ _ _ _ ho hf hs ch oq _ _ _ _ _ _ _ _ A T h' ?_
      rcases Fw with h | h
      · exact absurd h.2 (by decide)
      · exact Or.inl ⟨h.1, h.2.symm⟩
end
end
section
/-! Y: isUsed, lowest, isSameState, keepState -/
section
variable {g_noted g_depth g_rules g_planted g_trees g_stateCount g_known g_listed : Int32} {b_marks b_sizes b_lefts b_costs b_lengths b_operators b_spans b_least b_ways b_tasks b_list : Nat → Int32} {c : tc_C}
def ys_u (c : tc_C) (e : Nat) : Prop := e < 4 ∨ (4 ≤ e ∧ tc_us c (e - 4))
noncomputable def ys_e (c : tc_C) (e : Nat) : Nat := if e < 4 then e else tc_en c (e - 4)
theorem ys_used (W : tc_wf c) (U : yw_U c b_marks b_sizes b_lefts b_costs b_lengths) {post : Int32 → Prop} {e : Nat} (he : e < 74) (K1 : ys_u c e → post 1) (K0 : ¬ ys_u c e → post 0) : wpY_isUsed post (g_noted, g_depth, nI (tc_nr c), g_planted, g_trees, g_stateCount, g_known, g_listed, b_marks, b_sizes, b_lefts, b_costs, b_lengths, b_operators, b_spans, b_least, b_ways, b_tasks, b_list) (nI e) := by
  have h10 := W.1
  refine pk_lt e 4 (fun z => K1 (Or.inl z)) (fun z => ⟨by decide, ?_⟩)
  have e1 : nI e - 4 = nI (e - 4) := pk_sub (a := e) (b := 4) z
  have e2 : nI (e - 4) / 7 = nI ((e - 4) / 7) := pk_div (d := 7) (by omega) (by decide) (by decide)
  have e3 : nI (e - 4) - nI ((e - 4) / 7) * 7 = nI ((e - 4) % 7) := by rw [← e2]; exact pk_rem (d := 7) (by omega) (by decide) (by decide)
  rw [e1, e2, e3]
  refine pk_le (tc_nr c) ((e - 4) / 7) (fun y => K0 (fun q => ?_)) (fun y => ⟨by decide, by decide, vp_in_nI (by omega) (by decide), ?_⟩)
  · rcases q with q | q
    · omega
    · have := q.2.1
      omega
  · obtain ⟨u1, u2, u3, u4⟩ := U _ y
    have h7 := (W.2 _ y).2.2.2.1
    refine pk_le (tc_rn c ((e - 4) / 7)) ((e - 4) % 7) (fun x => K0 (fun q => ?_)) (fun x => K1 (Or.inr ⟨z, y, x⟩)) (by rw [nI_clamp (by omega)]; exact u3)
    rcases q with q | q
    · omega
    · have := q.2.2
      omega
theorem ys_row (W : tc_wf c) {L : Nat → Int32} {n e : Nat} {w : Nat → Nat} (R : yw_R c L n w) (hu : ys_u c e) : L (74 * n + e) = nI (w (ys_e c e)) ∧ ys_e c e < tc_N c := by
  unfold ys_e
  have hN := tc_N_le W
  rcases hu with h | ⟨h, h'⟩
  · rw [if_pos h]; exact ⟨R.1 e h, by omega⟩
  · rw [if_neg (by omega)]
    have := R.2 _ h'
    rw [show 74 * n + 4 + (e - 4) = 74 * n + e by omega] at this
    exact ⟨this, tc_en_lt W h'⟩
theorem ys_sur (W : tc_wf c) {j : Nat} (h : j < tc_N c) : ∃ e, e < 74 ∧ ys_u c e ∧ ys_e c e = j := by
  by_cases z : j < 4
  · exact ⟨j, by omega, Or.inl z, if_pos z⟩
  · obtain ⟨p, h1, h2⟩ := tc_sur (c := c) (e := j) (by omega) h
    have := (tc_us_lt W h1.1).2
    refine ⟨4 + p, by omega, Or.inr ⟨by omega, ?_⟩, ?_⟩
    · rw [show 4 + p - 4 = p by omega]; exact h1.1
    · unfold ys_e
      rw [if_neg (by omega), show 4 + p - 4 = p by omega, h2]
theorem ys_low5 (W : tc_wf c) (U : yw_U c b_marks b_sizes b_lefts b_costs b_lengths) {post : Int32 → Prop} {n : Nat} {w : Nat → Nat} (hn : n < 46) (R : yw_R c b_least n w) (hw : ∀ e, w e ≤ 1000000) (K : post (nI (tn_mn w (tc_N c)))) :
    ∀ d k, k + d = 74 → ∀ m, m ≤ 1000000 → (∀ e, e < k → ys_u c e → m ≤ w (ys_e c e)) → (m = 1000000 ∨ ∃ e, e < k ∧ ys_u c e ∧ m = w (ys_e c e)) → ∀ f, d < f → wY_lowest_5 post (nI n) g_noted g_depth (nI (tc_nr c)) g_planted g_trees g_stateCount g_known g_listed b_marks b_sizes b_lefts b_costs b_lengths b_operators b_spans b_least b_ways b_tasks b_list f (nI m) (nI k) := by
  intro d
  induction d with
  | zero =>
    intro k hk m hm h1 h2 f hf
    obtain ⟨f, rfl⟩ : ∃ m, f = m + 1 := ⟨f - 1, by omega⟩
    refine pk_le 74 k (fun _ => ?_) (fun z => by omega)
    have e : m = tn_mn w (tc_N c) := tn_mn_un hm (fun j hj => by
      obtain ⟨e, a1, a2, a3⟩ := ys_sur W hj
      rw [← a3]; exact h1 e (by omega) a2) (by
      rcases h2 with h | ⟨e, a1, a2, a3⟩
      · exact Or.inl h
      · exact Or.inr ⟨_, (ys_row W R a2).2, a3⟩)
    rw [e]
    exact K
  | succ d ih =>
    intro k hk m hm h1 h2 f hf
    obtain ⟨f, rfl⟩ : ∃ m, f = m + 1 := ⟨f - 1, by omega⟩
    refine pk_le 74 k (fun z => by omega) (fun _ => ys_used W U (show k < 74 by omega) (fun hu => br_f (by decide) ?_) (fun hu => br_t rfl (nm_r (nI_1 k) ?_)))
    · obtain ⟨r1, r2⟩ := ys_row W R hu
      have hb := hw (ys_e c k)
      have i1 : vp_in (74 * nI n + nI k) 3404 := by rw [xt_74]; exact vp_in_nI (by omega) (by decide)
      have e1 : b_least (74 * nI n + nI k).toNatClampNeg = nI (w (ys_e c k)) := by rw [xt_74, nI_clamp (by omega)]; exact r1
      refine ⟨i1, pk_le m (w (ys_e c k)) (fun z => nm_r (nI_1 k) (ih (k + 1) (by omega) m hm (fun e he hu => ?_) ?_ f (by omega))) (fun z => ⟨i1, nm_r e1 (nm_r (nI_1 k) (ih (k + 1) (by omega) _ hb (fun e he hu => ?_) ?_ f (by omega)))⟩) rfl e1⟩
      · by_cases y : e = k
        · rw [y]; exact z
        · exact h1 e (by omega) hu
      · rcases h2 with h | ⟨e, a1, a2, a3⟩
        · exact Or.inl h
        · exact Or.inr ⟨e, by omega, a2, a3⟩
      · by_cases y : e = k
        · rw [y]; exact Nat.le_refl _
        · have := h1 e (by omega) hu
          omega
      · exact Or.inr ⟨k, by omega, hu, rfl⟩
    · refine ih (k + 1) (by omega) m hm (fun e he hv => ?_) ?_ f (by omega)
      · by_cases y : e = k
        · exact absurd (y ▸ hv) hu
        · exact h1 e (by omega) hv
      · rcases h2 with h | ⟨e, a1, a2, a3⟩
        · exact Or.inl h
        · exact Or.inr ⟨e, by omega, a2, a3⟩
theorem ys_low (W : tc_wf c) (U : yw_U c b_marks b_sizes b_lefts b_costs b_lengths) {post : Int32 → Prop} {n : Nat} {w : Nat → Nat} (hn : n < 46) (R : yw_R c b_least n w) (hw : ∀ e, w e ≤ 1000000) (K : post (nI (tn_mn w (tc_N c)))) : wpY_lowest post (g_noted, g_depth, nI (tc_nr c), g_planted, g_trees, g_stateCount, g_known, g_listed, b_marks, b_sizes, b_lefts, b_costs, b_lengths, b_operators, b_spans, b_least, b_ways, b_tasks, b_list) (nI n) :=
  ⟨75, ys_low5 W U hn R hw K 74 0 rfl 1000000 (Nat.le_refl _) (fun e he => absurd he (Nat.not_lt_zero _)) (Or.inl rfl) 75 (by omega)⟩
def ys_ok (w1 w2 : Nat → Nat) (N j : Nat) : Prop := (1000000 ≤ w1 j ∧ 1000000 ≤ w2 j) ∨ (w1 j < 1000000 ∧ w2 j < 1000000 ∧ w1 j - tn_mn w1 N = w2 j - tn_mn w2 N)
theorem ys_ok_v {w1 w2 : Nat → Nat} {N : Nat} : (∀ j, j < N → ys_ok w1 w2 N j) ↔ tn_v w1 N = tn_v w2 N := by
  have el : ∀ (w : Nat → Nat) j, j < N → w j < 1000000 → tn_l w N = tn_mn w N := fun w j hj hw => by
    have := tn_mn_lb w N j hj
    exact if_neg (by omega)
  have lb := tn_mn_lb
  constructor
  · intro h
    funext e
    unfold tn_v
    by_cases he : e < N
    · rw [if_pos he, if_pos he]
      rcases h e he with ⟨a, b⟩ | ⟨a, b, d⟩
      · rw [if_neg (by omega), if_neg (by omega)]
      · rw [if_pos a, if_pos b, el w1 e he a, el w2 e he b]; exact d
    · rw [if_neg he, if_neg he]
  · intro h j hj
    have e := congrFun h j
    unfold tn_v at e
    rw [if_pos hj, if_pos hj] at e
    by_cases a : w1 j < 1000000
    · rw [if_pos a, el w1 j hj a] at e
      by_cases b : w2 j < 1000000
      · rw [if_pos b, el w2 j hj b] at e
        exact Or.inr ⟨a, b, e⟩
      · rw [if_neg b] at e
        omega
    · rw [if_neg a] at e
      by_cases b : w2 j < 1000000
      · rw [if_pos b] at e
        omega
      · exact Or.inl ⟨by omega, by omega⟩
theorem ys_70u (W : tc_wf c) (U : yw_U c b_marks b_sizes b_lefts b_costs b_lengths) {post : Int32 → Prop} {J : Int32 → Prop} {x1 x2 x3 x4 x6 x7 z0 : Int32} {e : Nat} (he : e < 74) (hu : ¬ ys_u c e) (K : J (nI (e + 1))) : wY_isSameState_70 post J x1 x2 x3 x4 (nI e) x6 x7 z0 g_noted g_depth (nI (tc_nr c)) g_planted g_trees g_stateCount g_known g_listed b_marks b_sizes b_lefts b_costs b_lengths b_operators b_spans b_least b_ways b_tasks b_list :=
  ys_used W U he (fun h => absurd h hu) (fun _ => br_t rfl (nm_r (nI_1 e) K))
theorem ys_same16 (W : tc_wf c) (U : yw_U c b_marks b_sizes b_lefts b_costs b_lengths) {post : Int32 → Prop} {n m : Nat} {w1 w2 : Nat → Nat} (hn : n < 46) (hm : m < 46) (R1 : yw_R c b_least n w1) (R2 : yw_R c b_least m w2) (hw1 : ∀ e, w1 e ≤ 1000000) (hw2 : ∀ e, w2 e ≤ 1000000)
    (K1 : (∀ j, j < tc_N c → ys_ok w1 w2 (tc_N c) j) → post 1) (K0 : ¬ (∀ j, j < tc_N c → ys_ok w1 w2 (tc_N c) j) → post 0) :
    ∀ d k, k + d = 74 → (∀ e, e < k → ys_u c e → ys_ok w1 w2 (tc_N c) (ys_e c e)) → ∀ f, d < f → wY_isSameState_16 post (nI n) (nI m) (nI (tn_mn w1 (tc_N c))) (nI (tn_mn w2 (tc_N c))) g_noted g_depth (nI (tc_nr c)) g_planted g_trees g_stateCount g_known g_listed b_marks b_sizes b_lefts b_costs b_lengths b_operators b_spans b_least b_ways b_tasks b_list f (nI k) := by
  intro d
  induction d with
  | zero =>
    intro k hk h f hf
    obtain ⟨f, rfl⟩ : ∃ m, f = m + 1 := ⟨f - 1, by omega⟩
    refine pk_le 74 k (fun _ => K1 (fun j hj => ?_)) (fun z => by omega)
    obtain ⟨e, a1, a2, a3⟩ := ys_sur W hj
    rw [← a3]
    exact h e (by omega) a2
  | succ d ih =>
    intro k hk h f hf
    obtain ⟨f, rfl⟩ : ∃ m, f = m + 1 := ⟨f - 1, by omega⟩
    have i1 : vp_in (74 * nI n + nI k) 3404 := by rw [xt_74]; exact vp_in_nI (by omega) (by decide)
    have i2 : vp_in (74 * nI m + nI k) 3404 := by rw [xt_74]; exact vp_in_nI (by omega) (by decide)
    refine pk_le 74 k (fun z => by omega) (fun _ => ⟨i1, ?_⟩)
    by_cases hu : ys_u c k
    · obtain ⟨r1, r2⟩ := ys_row W R1 hu
      obtain ⟨r3, r4⟩ := ys_row W R2 hu
      have b1 := hw1 (ys_e c k)
      have b2 := hw2 (ys_e c k)
      have l1 := tn_mn_lb w1 (tc_N c) _ r2
      have l2 := tn_mn_lb w2 (tc_N c) _ r2
      have e1 : b_least (74 * nI n + nI k).toNatClampNeg = nI (w1 (ys_e c k)) := by rw [xt_74, nI_clamp (by omega)]; exact r1
      have e2 : b_least (74 * nI m + nI k).toNatClampNeg = nI (w2 (ys_e c k)) := by rw [xt_74, nI_clamp (by omega)]; exact r3
      have nx : ys_ok w1 w2 (tc_N c) (ys_e c k) → wY_isSameState_16 post (nI n) (nI m) (nI (tn_mn w1 (tc_N c))) (nI (tn_mn w2 (tc_N c))) g_noted g_depth (nI (tc_nr c)) g_planted g_trees g_stateCount g_known g_listed b_marks b_sizes b_lefts b_costs b_lengths b_operators b_spans b_least b_ways b_tasks b_list f (nI (k + 1)) := fun ok => ih (k + 1) (by omega) (fun e he hu => by
        by_cases y : e = k
        · rw [y]; exact ok
        · exact h e (by omega) hu) f (by omega)
      have k0 : ¬ ys_ok w1 w2 (tc_N c) (ys_e c k) → post 0 := fun q => K0 (fun all => q (all _ r2))
      have key : ∀ z0 : Int32, z0 = 0 → (w1 (ys_e c k) < 1000000 ∨ w2 (ys_e c k) < 1000000) → wY_isSameState_70 post (wY_isSameState_16 post (nI n) (nI m) (nI (tn_mn w1 (tc_N c))) (nI (tn_mn w2 (tc_N c))) g_noted g_depth (nI (tc_nr c)) g_planted g_trees g_stateCount g_known g_listed b_marks b_sizes b_lefts b_costs b_lengths b_operators b_spans b_least b_ways b_tasks b_list f) (nI n) (nI m) (nI (tn_mn w1 (tc_N c))) (nI (tn_mn w2 (tc_N c))) (nI k) (nI (w1 (ys_e c k))) (nI (w2 (ys_e c k))) z0 g_noted g_depth (nI (tc_nr c)) g_planted g_trees g_stateCount g_known g_listed b_marks b_sizes b_lefts b_costs b_lengths b_operators b_spans b_least b_ways b_tasks b_list := by
        intro z0 ez ho
        refine ys_used W U (show k < 74 by omega) (fun _ => br_f (by decide) (br_t ez ?_)) (fun q => absurd hu q)
        refine pk_le 1000000 (w1 (ys_e c k)) (fun q => k0 (fun ok => ?_)) (fun q => pk_le 1000000 (w2 (ys_e c k)) (fun q' => k0 (fun ok => ?_)) (fun q' => ?_))
        · rcases ok with ok | ok <;> omega
        · rcases ok with ok | ok <;> omega
        · rw [pk_sub l1, pk_sub l2]
          refine pk_eq (w1 (ys_e c k) - tn_mn w1 (tc_N c)) (w2 (ys_e c k) - tn_mn w2 (tc_N c)) (fun y => nm_r (nI_1 k) (nx (Or.inr ⟨q, q', y⟩))) (fun y => k0 (fun ok => ?_))
          rcases ok with ok | ok <;> omega
      refine nm_r e1 ⟨i2, nm_r e2 (pk_lt (w1 (ys_e c k)) 1000000 (fun q => key 0 rfl (Or.inl q)) (fun q => pk_lt (w2 (ys_e c k)) 1000000 (fun q' => key 0 rfl (Or.inr q')) (fun q' => ?_)))⟩
      exact ys_used W U (show k < 74 by omega) (fun _ => br_f (by decide) (br_f (by decide) (nm_r (nI_1 k) (nx (Or.inl ⟨q, q'⟩))))) (fun q => absurd hu q)
    · have nx := ih (k + 1) (by omega) (fun e he hv => by
        by_cases y : e = k
        · exact absurd (y ▸ hv) hu
        · exact h e (by omega) hv) f (by omega)
      have nu := fun x6 x7 z0 => ys_70u W U (post := post) (x1 := nI n) (x2 := nI m) (x3 := nI (tn_mn w1 (tc_N c))) (x4 := nI (tn_mn w2 (tc_N c))) (x6 := x6) (x7 := x7) (z0 := z0) (show k < 74 by omega) hu nx (g_noted := g_noted) (g_depth := g_depth) (g_planted := g_planted) (g_trees := g_trees) (g_stateCount := g_stateCount) (g_known := g_known) (g_listed := g_listed) (b_operators := b_operators) (b_spans := b_spans) (b_least := b_least) (b_ways := b_ways) (b_tasks := b_tasks) (b_list := b_list)
      exact nm_e ⟨i2, nm_e (br_c (fun _ => nu _ _ 0) (fun _ => br_c (fun _ => nu _ _ 0) (fun _ => nu _ _ 1)))⟩
theorem ys_same (W : tc_wf c) (U : yw_U c b_marks b_sizes b_lefts b_costs b_lengths) {post : Int32 → Prop} {n m : Nat} {w1 w2 : Nat → Nat} (hn : n < 46) (hm : m < 46) (R1 : yw_R c b_least n w1) (R2 : yw_R c b_least m w2) (hw1 : ∀ e, w1 e ≤ 1000000) (hw2 : ∀ e, w2 e ≤ 1000000)
    (K1 : tn_v w1 (tc_N c) = tn_v w2 (tc_N c) → post 1) (K0 : tn_v w1 (tc_N c) ≠ tn_v w2 (tc_N c) → post 0) : wpY_isSameState post (g_noted, g_depth, nI (tc_nr c), g_planted, g_trees, g_stateCount, g_known, g_listed, b_marks, b_sizes, b_lefts, b_costs, b_lengths, b_operators, b_spans, b_least, b_ways, b_tasks, b_list) (nI n) (nI m) :=
  ys_low W U hn R1 hw1 (ys_low W U hm R2 hw2 ⟨75, ys_same16 W U hn hm R1 R2 hw1 hw2 (fun h => K1 (ys_ok_v.mp h)) (fun h => K0 (fun q => h (ys_ok_v.mpr q))) 74 0 rfl (fun e he => absurd he (Nat.not_lt_zero _)) 75 (by omega)⟩)
theorem tn_v_id (t : Nat → Nat) (N : Nat) : tn_v (tn_v t N) N = tn_v t N := by
  have hl : tn_l (tn_v t N) N = 0 := by
    unfold tn_l
    by_cases z : tn_mn (tn_v t N) N = 1000000
    · rw [if_pos z]
    · rw [if_neg z]
      rcases tn_mn_at t N with h | ⟨j, h1, h2⟩
      · exfalso
        apply z
        symm
        refine tn_mn_un (Nat.le_refl _) (fun j hj => ?_) (Or.inl rfl)
        have := tn_mn_lb t N j hj
        show 1000000 ≤ tn_v t N j
        unfold tn_v
        rw [if_pos hj, if_neg (by omega)]
        exact Nat.le_refl _
      · have lb := tn_mn_lb (tn_v t N) N j h1
        by_cases y : t j < 1000000
        · have e : tn_v t N j = 0 := by
            unfold tn_v
            rw [if_pos h1, if_pos y]
            unfold tn_l
            rw [if_neg (by omega)]
            omega
          omega
        · exfalso
          apply z
          symm
          refine tn_mn_un (Nat.le_refl _) (fun i hi => ?_) (Or.inl rfl)
          have := tn_mn_lb t N i hi
          show 1000000 ≤ tn_v t N i
          unfold tn_v
          rw [if_pos hi, if_neg (by omega)]
          exact Nat.le_refl _
  funext e
  show (if e < N then (if tn_v t N e < 1000000 then tn_v t N e - tn_l (tn_v t N) N else 1000000) else 0) = tn_v t N e
  rw [hl]
  by_cases he : e < N
  · rw [if_pos he]
    have := tn_v_le t N e
    split <;> omega
  · rw [if_neg he, tn_v_hi t N (by omega)]
theorem tn_R_id {w : Nat → Nat} (h : tn_R c w) : tn_v w (tc_N c) = w :=
  h (fun w => tn_v w (tc_N c) = w) ⟨fun _ _ => tn_v_id _ _, fun _ _ _ _ _ => tn_v_id _ _, fun _ _ _ _ _ _ _ => tn_v_id _ _⟩
end
end
section
/-! Y: keepState, makeStates, findStates -/
section
variable {g_noted g_depth g_rules g_planted g_trees g_stateCount g_known g_listed : Int32} {b_marks b_sizes b_lefts b_costs b_lengths b_operators b_spans b_least b_ways b_tasks b_list : Nat → Int32} {c : tc_C}
def yb_B (c : tc_C) (sy : Nat) (yv : Nat → Nat → Nat) (L : Nat → Int32) : Prop := sy ≤ 21 ∧ tn_D sy yv ∧ ∀ s, s < sy → tn_R c (yv s) ∧ yw_R c L (24 + s) (yv s)
theorem yb_B_fr (W : tc_wf c) {sy : Nat} {yv : Nat → Nat → Nat} {L L' : Nat → Int32} (B : yb_B c sy yv L) (h : ∀ j, 74 * 24 ≤ j → j < 74 * 45 → L' j = L j) : yb_B c sy yv L' := by
  obtain ⟨b1, b2, b3⟩ := B
  exact ⟨b1, b2, fun s hs => ⟨(b3 s hs).1, yw_R_fr W (b3 s hs).2 (fun j h1 h2 => h j (by omega) (by omega))⟩⟩
theorem ys_R_of (W : tc_wf c) {L : Nat → Int32} {n : Nat} {w : Nat → Nat} (h : ∀ e, e < 74 → ys_u c e → L (74 * n + e) = nI (w (ys_e c e))) : yw_R c L n w := by
  refine ⟨fun g hg => ?_, fun p hp => ?_⟩
  · have := h g (by omega) (Or.inl hg)
    rw [show ys_e c g = g from if_pos hg] at this
    exact this
  · have h70 := (tc_us_lt W hp).2
    have := h (4 + p) (by omega) (Or.inr ⟨by omega, by rw [show 4 + p - 4 = p by omega]; exact hp⟩)
    rw [show ys_e c (4 + p) = tc_en c p from by unfold ys_e; rw [if_neg (by omega), show 4 + p - 4 = p by omega]] at this
    rw [show 74 * n + 4 + p = 74 * n + (4 + p) by omega]
    exact this
theorem yk_61 (W : tc_wf c) (U : yw_U c b_marks b_sizes b_lefts b_costs b_lengths) {post : Int32 → SY → Prop} {sy : Nat} {w : Nat → Nat} (hs : sy ≤ 20) (R45 : yw_R c b_least 45 w) (hw : ∀ e, w e ≤ 1000000)
    (K : ∀ L : Nat → Int32, yw_R c L (24 + sy) (tn_v w (tc_N c)) → (∀ j, (j < 74 * (24 + sy) ∨ 74 * (24 + sy) + 74 ≤ j) → L j = b_least j) → post 1 (g_noted, g_depth, nI (tc_nr c), g_planted, g_trees, nI (sy + 1), g_known, g_listed, b_marks, b_sizes, b_lefts, b_costs, b_lengths, b_operators, b_spans, L, b_ways, b_tasks, b_list)) :
    ∀ d k, k + d = 74 → ∀ L : Nat → Int32, (∀ e, e < k → ys_u c e → L (74 * (24 + sy) + e) = nI (tn_v w (tc_N c) (ys_e c e))) → (∀ j, (j < 74 * (24 + sy) ∨ 74 * (24 + sy) + 74 ≤ j) → L j = b_least j) →
      ∀ f, d < f → wY_keepState_61 post (nI (24 + sy)) (nI (tn_mn w (tc_N c))) g_noted g_depth (nI (tc_nr c)) g_planted g_trees (nI sy) g_known g_listed f (nI k) b_marks b_sizes b_lefts b_costs b_lengths b_operators b_spans L b_ways b_tasks b_list := by
  intro d
  induction d with
  | zero =>
    intro k hk L h1 h2 f hf
    obtain ⟨f, rfl⟩ : ∃ m, f = m + 1 := ⟨f - 1, by omega⟩
    have ek : k = 74 := by omega
    subst ek
    exact pk_le 74 74 (fun _ => nm_r (nI_1 sy) (K L (ys_R_of W h1) h2)) (fun z => by omega)
  | succ d ih =>
    intro k hk L h1 h2 f hf
    obtain ⟨f, rfl⟩ : ∃ m, f = m + 1 := ⟨f - 1, by omega⟩
    have e0 : (3330 : Int32) + nI k = nI (3330 + k) := yw_l 3330 k rfl
    have e1 := xt_74 (24 + sy) k
    have i1 : vp_in (74 * nI (24 + sy) + nI k) 3404 := by rw [e1]; exact vp_in_nI (by omega) (by decide)
    have eo : L (3330 + nI k).toNatClampNeg = b_least (74 * 45 + k) := by rw [e0, nI_clamp (by omega)]; exact h2 _ (by omega)
    have nx : ∀ v : Int32, (ys_u c k → v = nI (tn_v w (tc_N c) (ys_e c k))) → wY_keepState_61 post (nI (24 + sy)) (nI (tn_mn w (tc_N c))) g_noted g_depth (nI (tc_nr c)) g_planted g_trees (nI sy) g_known g_listed f (nI (k + 1)) b_marks b_sizes b_lefts b_costs b_lengths b_operators b_spans (upd L (74 * (24 + sy) + k) v) b_ways b_tasks b_list := by
      intro v hv
      refine ih (k + 1) (by omega) (upd L (74 * (24 + sy) + k) v) (fun e he hu => ?_) (fun j hj => ?_) f (by omega)
      · by_cases z : e = k
        · rw [z, pk_us]; exact hv (z ▸ hu)
        · rw [pk_un (by omega)]; exact h1 e (by omega) hu
      · rw [pk_un (by omega)]; exact h2 j hj
    have eu : ∀ v : Int32, upd L ((74 : Int32) * nI (24 + sy) + nI k).toNatClampNeg v = upd L (74 * (24 + sy) + k) v := fun v => by rw [e1, nI_clamp (by omega)]
    refine pk_le 74 k (fun z => by omega) (fun _ => ⟨pk_in (3330 + k) 3404 (by omega) e0, nm_r eo (br_c (fun z => ⟨i1, nm_r (eu _) (nm_r (nI_1 k) (nx _ (fun hu => ?_)))⟩) (fun z => ⟨i1, nm_r (eu _) (nm_r (nI_1 k) (nx _ (fun hu => ?_)))⟩))⟩)
    · obtain ⟨r1, r2⟩ := ys_row W R45 hu
      have hb := hw (ys_e c k)
      rw [r1] at z ⊢
      have z' : w (ys_e c k) < 1000000 := (nI_ltI (a := w (ys_e c k)) (b := 1000000) (by omega) (by decide)).mp z
      have lb := tn_mn_lb w (tc_N c) _ r2
      rw [pk_sub lb]
      unfold tn_v
      rw [if_pos r2, if_pos z', show tn_l w (tc_N c) = tn_mn w (tc_N c) from if_neg (by omega)]
    · obtain ⟨r1, r2⟩ := ys_row W R45 hu
      have hb := hw (ys_e c k)
      rw [r1] at z
      have z' : ¬ w (ys_e c k) < 1000000 := fun y => z ((nI_ltI (a := w (ys_e c k)) (b := 1000000) (by omega) (by decide)).mpr y)
      unfold tn_v
      rw [if_pos r2, if_neg z']
      rfl
theorem yk_30n {post : Int32 → SY → Prop} {sy s : Nat} (hs : s < sy) (h21 : sy ≤ 21) (K : post 0 (g_noted, g_depth, g_rules, g_planted, g_trees, nI sy, g_known, g_listed, b_marks, b_sizes, b_lefts, b_costs, b_lengths, b_operators, b_spans, b_least, b_ways, b_tasks, b_list)) : wY_keepState_30 post (nI (24 + s)) g_noted g_depth g_rules g_planted g_trees (nI sy) g_known g_listed b_marks b_sizes b_lefts b_costs b_lengths b_operators b_spans b_least b_ways b_tasks b_list :=
  br_t (by rw [show (24 : Int32) + nI sy = nI (24 + sy) from yw_l 24 sy rfl]; exact nI_lt (by omega) (by omega)) K
theorem yk_3 (W : tc_wf c) (U : yw_U c b_marks b_sizes b_lefts b_costs b_lengths) {post : Int32 → SY → Prop} {sy : Nat} {yv : Nat → Nat → Nat} {w : Nat → Nat} (B : yb_B c sy yv b_least) (R45 : yw_R c b_least 45 w) (hw : ∀ e, w e ≤ 1000000) (hR : tn_R c (tn_v w (tc_N c)))
    (K0 : (xf_H sy yv (tn_v w (tc_N c)) ∨ sy = 21) → post 0 (g_noted, g_depth, nI (tc_nr c), g_planted, g_trees, nI sy, g_known, g_listed, b_marks, b_sizes, b_lefts, b_costs, b_lengths, b_operators, b_spans, b_least, b_ways, b_tasks, b_list))
    (K1 : ∀ (yv' : Nat → Nat → Nat) (L : Nat → Int32), yb_B c (sy + 1) yv' L → (∀ s, s < sy → yv' s = yv s) → yv' sy = tn_v w (tc_N c) → post 1 (g_noted, g_depth, nI (tc_nr c), g_planted, g_trees, nI (sy + 1), g_known, g_listed, b_marks, b_sizes, b_lefts, b_costs, b_lengths, b_operators, b_spans, L, b_ways, b_tasks, b_list)) :
    ∀ d s, s + d = sy → (∀ i, i < s → yv i ≠ tn_v w (tc_N c)) → ∀ f, d < f → wY_keepState_3 post g_noted g_depth (nI (tc_nr c)) g_planted g_trees (nI sy) g_known g_listed b_marks b_sizes b_lefts b_costs b_lengths b_operators b_spans b_least b_ways b_tasks b_list f (nI (24 + s)) := by
  have e24 : (24 : Int32) + nI sy = nI (24 + sy) := yw_l 24 sy rfl
  have h21 := B.1
  intro d
  induction d with
  | zero =>
    intro s hs hn f hf
    obtain ⟨f, rfl⟩ : ∃ m, f = m + 1 := ⟨f - 1, by omega⟩
    have es : s = sy := by omega
    subst es
    refine pk_le (24 + s) (24 + s) (fun _ => ?_) (fun z => by omega) e24
    refine br_f (by rw [e24]; exact nI_nlt (Nat.le_refl _) (by omega)) (pk_le s 20 (fun z => ?_) (fun z => K0 (Or.inr (by omega))))
    refine ys_low W U (n := 45) (by omega) R45 hw ⟨75, yk_61 W U z R45 hw (fun L R F => ?_) 74 0 rfl b_least (fun e he => absurd he (Nat.not_lt_zero _)) (fun j _ => rfl) 75 (by omega)⟩
    obtain ⟨b1, b2, b3⟩ := B
    have es : (fun i => if i = s then tn_v w (tc_N c) else yv i) s = tn_v w (tc_N c) := if_pos rfl
    have en : ∀ i, i < s → (fun i => if i = s then tn_v w (tc_N c) else yv i) i = yv i := fun i hi => if_neg (by omega)
    refine K1 (fun i => if i = s then tn_v w (tc_N c) else yv i) L ⟨by omega, fun i j hi hj => ?_, fun i hi => ?_⟩ en es
    · rw [en i (by omega)]
      by_cases y : j = s
      · rw [y, es]; exact hn i (by omega)
      · rw [en j (by omega)]; exact b2 i j hi (by omega)
    · by_cases y : i = s
      · rw [y, es]; exact ⟨hR, R⟩
      · rw [en i (by omega)]
        exact ⟨(b3 i (by omega)).1, yw_R_fr W (b3 i (by omega)).2 (fun j h1 h2 => F j (by omega))⟩
  | succ d ih =>
    intro s hs hn f hf
    obtain ⟨f, rfl⟩ : ∃ m, f = m + 1 := ⟨f - 1, by omega⟩
    have b3 := B.2.2 s (by omega)
    refine pk_le (24 + sy) (24 + s) (fun z => by omega) (fun _ => ?_) e24
    refine ys_same W U (n := 24 + s) (m := 45) (by omega) (by omega) b3.2 R45 (tn_R_le b3.1) hw (fun q => br_f (by decide) (yk_30n (by omega) h21 (K0 (Or.inl ⟨s, by omega, ?_⟩)))) (fun q => br_t rfl (nm_r (nI_1 (24 + s)) (ih (s + 1) (by omega) (fun i hi => ?_) f (by omega))))
    · rw [tn_R_id b3.1] at q; exact q
    · rw [tn_R_id b3.1] at q
      by_cases y : i = s
      · rw [y]; exact q
      · exact hn i (by omega)
theorem yk_85 (W : tc_wf c) (U : yw_U c b_marks b_sizes b_lefts b_costs b_lengths) {post : Int32 → SY → Prop} {J : Int32 → Int32 → Int32 → Int32 → Int32 → Int32 → Int32 → Int32 → Int32 → Int32 → (Nat → Int32) → (Nat → Int32) → (Nat → Int32) → (Nat → Int32) → (Nat → Int32) → (Nat → Int32) → (Nat → Int32) → (Nat → Int32) → (Nat → Int32) → (Nat → Int32) → (Nat → Int32) → Prop} {x3 x4 z0 z1 : Int32} {o x y k mo sy : Nat} {yv : Nat → Nat → Nat} {wa wb : Nat → Nat} (ho : o < 6) (hmo : mo ≤ 1) (hk : k < 1000) (hy : z1 + z0 = nI y)
    (B : yb_B c sy yv b_least) (hwa : ∀ e, wa e ≤ 1000000) (hwb : ∀ e, wb e ≤ 1000000) (X : yw_X c 45 o x y wa wb b_least) (hR : tn_R c (tn_s c o wa wb))
    (K0 : (xf_H sy yv (tn_s c o wa wb) ∨ sy = 21) → ∀ L : Nat → Int32, yb_B c sy yv L → J (nI mo) (nI (k + 1)) g_noted g_depth (nI (tc_nr c)) g_planted g_trees (nI sy) g_known g_listed b_marks b_sizes b_lefts b_costs b_lengths b_operators b_spans L b_ways b_tasks b_list)
    (K1 : ∀ (yv' : Nat → Nat → Nat) (L : Nat → Int32), yb_B c (sy + 1) yv' L → (∀ s, s < sy → yv' s = yv s) → yv' sy = tn_s c o wa wb → J (nI 1) (nI (k + 1)) g_noted g_depth (nI (tc_nr c)) g_planted g_trees (nI (sy + 1)) g_known g_listed b_marks b_sizes b_lefts b_costs b_lengths b_operators b_spans L b_ways b_tasks b_list) :
    wY_makeStates_85 post J (nI o) (nI mo) x3 x4 (nI k) (nI x) z0 z1 g_noted g_depth (nI (tc_nr c)) g_planted g_trees (nI sy) g_known g_listed b_marks b_sizes b_lefts b_costs b_lengths b_operators b_spans b_least b_ways b_tasks b_list := by
  refine nm_r hy (yw_out W U (n := 45) (by omega) ho hwa hwb X (fun L R F => ⟨sy + 1, ?_⟩))
  have B' : yb_B c sy yv L := yb_B_fr W B (fun j h1 h2 => F j (by omega))
  have ev : tn_v (fun e => tc_cl (tc_st c o wa wb e)) (tc_N c) = tn_s c o wa wb := tn_v_cl _ _
  refine yk_3 W U B' R (fun e => tc_cl_le _) (by rw [ev]; exact hR) (fun h => br_t rfl ?_) (fun yv' L' B2 E1 E2 => br_f (by decide) (nm_r (nI_1 k) (K1 yv' L' B2 E1 (E2.trans ev)))) sy 0 (by omega) (fun i hi => absurd hi (Nat.not_lt_zero _)) (sy + 1) (by omega)
  rw [ev] at h
  by_cases z : mo = 0
  · subst z
    exact br_t rfl (nm_r (nI_1 k) (K0 h L B'))
  · have : mo = 1 := by omega
    subst this
    exact br_f (by decide) (nm_r (nI_1 k) (K0 h L B'))
noncomputable def yk_a (o mn : Nat) (yv : Nat → Nat → Nat) (k : Nat) : Nat → Nat := if o < 2 then tn_z else if o < 4 then yv k else yv (k / mn)
noncomputable def yk_b (o mn : Nat) (yv : Nat → Nat → Nat) (k : Nat) : Nat → Nat := if o < 4 then tn_z else yv (k % mn)
def yk_x (sy0 : Nat) (yv0 : Nat → Nat → Nat) (sy : Nat) (yv : Nat → Nat → Nat) : Prop := sy0 ≤ sy ∧ ∀ s, s < sy0 → yv s = yv0 s
def yk_m (mo sy0 sy : Nat) : Prop := (mo = 0 ∧ sy = sy0) ∨ (mo = 1 ∧ sy0 < sy)
def yk_p (o sy0 pr : Nat) : Prop := (o < 2 → pr = 1) ∧ (2 ≤ o → o < 4 → pr = sy0) ∧ (4 ≤ o → pr = sy0 * sy0)
theorem xf_H_k {sy0 sy : Nat} {yv0 yv : Nat → Nat → Nat} {w : Nat → Nat} (X : yk_x sy0 yv0 sy yv) (h : xf_H sy0 yv0 w) : xf_H sy yv w := by
  obtain ⟨s, h1, h2⟩ := h
  exact ⟨s, Nat.lt_of_lt_of_le h1 X.1, (X.2 s h1).trans h2⟩
theorem yk_42 (W : tc_wf c) (U : yw_U c b_marks b_sizes b_lefts b_costs b_lengths) {post : Int32 → SY → Prop} {o pr sy0 : Nat} {yv0 : Nat → Nat → Nat} (ho : o < 6) (h21 : sy0 ≤ 21) (hp : yk_p o sy0 pr)
    (K : ∀ (sy : Nat) (yv : Nat → Nat → Nat) (mo : Nat) (L : Nat → Int32), yb_B c sy yv L → yk_x sy0 yv0 sy yv → yk_m mo sy0 sy → (sy = 21 ∨ ∀ i, i < pr → xf_H sy yv (tn_s c o (yk_a o sy0 yv0 i) (yk_b o sy0 yv0 i))) → post (nI mo) (g_noted, g_depth, nI (tc_nr c), g_planted, g_trees, nI sy, g_known, g_listed, b_marks, b_sizes, b_lefts, b_costs, b_lengths, b_operators, b_spans, L, b_ways, b_tasks, b_list)) :
    ∀ d k, k + d = pr → ∀ (sy : Nat) (yv : Nat → Nat → Nat) (mo : Nat) (L : Nat → Int32), yb_B c sy yv L → yk_x sy0 yv0 sy yv → yk_m mo sy0 sy → (sy = 21 ∨ ∀ i, i < k → xf_H sy yv (tn_s c o (yk_a o sy0 yv0 i) (yk_b o sy0 yv0 i))) →
      ∀ f, d < f → wY_makeStates_42 post (nI o) (nI pr) (nI sy0) f (nI mo) (nI k) g_noted g_depth (nI (tc_nr c)) g_planted g_trees (nI sy) g_known g_listed b_marks b_sizes b_lefts b_costs b_lengths b_operators b_spans L b_ways b_tasks b_list := by
  have hpr : pr ≤ 441 := by
    rcases Nat.lt_or_ge o 2 with z | z
    · rw [hp.1 z]; omega
    · rcases Nat.lt_or_ge o 4 with y | y
      · rw [hp.2.1 z y]; omega
      · rw [hp.2.2 y]; exact Nat.mul_le_mul h21 h21
  intro d
  induction d with
  | zero =>
    intro k hk sy yv mo L B X M H f hf
    obtain ⟨f, rfl⟩ : ∃ m, f = m + 1 := ⟨f - 1, by omega⟩
    have ek : k = pr := by omega
    subst ek
    have nb : narrow .boolean (.int (nI mo)) = .int (nI mo) := by
      rcases M with ⟨m, -⟩ | ⟨m, -⟩ <;> rw [m] <;> rfl
    exact pk_le k k (fun _ => ⟨nb, K sy yv mo L B X M H⟩) (fun z => by omega)
  | succ d ih =>
    intro k hk sy yv mo L B X M H f hf
    obtain ⟨f, rfl⟩ : ∃ m, f = m + 1 := ⟨f - 1, by omega⟩
    have hmo : mo ≤ 1 := by rcases M with ⟨m, -⟩ | ⟨m, -⟩ <;> omega
    -- one pair, at rows 24 + ix, 24 + iy
    have one : ∀ (ix iy : Nat) (wa wb : Nat → Nat) (z0 z1 : Int32), z1 + z0 = nI (24 + iy) → wa = yk_a o sy0 yv0 k → wb = yk_b o sy0 yv0 k → (2 ≤ o → ix < sy0 ∧ wa = yv0 ix) → (4 ≤ o → iy < sy0 ∧ wb = yv0 iy) → (o < 2 → wa = tn_z) → (o < 4 → wb = tn_z) →
        wY_makeStates_85 post (wY_makeStates_42 post (nI o) (nI pr) (nI sy0) f) (nI o) (nI mo) (nI pr) (nI sy0) (nI k) (nI (24 + ix)) z0 z1 g_noted g_depth (nI (tc_nr c)) g_planted g_trees (nI sy) g_known g_listed b_marks b_sizes b_lefts b_costs b_lengths b_operators b_spans L b_ways b_tasks b_list := by
      intro ix iy wa wb z0 z1 hz ea eb ha hb ha' hb'
      have x1 := X.1
      have Ra : 2 ≤ o → tn_R c wa := fun h => by
        obtain ⟨h1, h2⟩ := ha h
        rw [h2, ← X.2 ix h1]; exact (B.2.2 ix (by omega)).1
      have Rb : 4 ≤ o → tn_R c wb := fun h => by
        obtain ⟨h1, h2⟩ := hb h
        rw [h2, ← X.2 iy h1]; exact (B.2.2 iy (by omega)).1
      have hR : tn_R c (tn_s c o wa wb) := by
        rcases Nat.lt_or_ge o 2 with z | z
        · rw [ha' z, hb' (by omega)]; exact (tn_R_Q c).1 o z
        · rcases Nat.lt_or_ge o 4 with y | y
          · rw [hb' y]; exact (tn_R_Q c).2.1 o z y _ (Ra z)
          · exact (tn_R_Q c).2.2 o y ho _ _ (Ra z) (Rb y)
      have la : ∀ e, wa e ≤ 1000000 := by
        rcases Nat.lt_or_ge o 2 with z | z
        · rw [ha' z]; exact fun _ => Nat.zero_le _
        · exact tn_R_le (Ra z)
      have lb : ∀ e, wb e ≤ 1000000 := by
        rcases Nat.lt_or_ge o 4 with z | z
        · rw [hb' z]; exact fun _ => Nat.zero_le _
        · exact tn_R_le (Rb z)
      have b21 := B.1
      refine yk_85 W U ho hmo (by omega) hz B la lb ⟨fun h => ?_, fun h => ?_⟩ hR (fun h L' B' => ?_) (fun yv' L' B' E1 E2 => ?_)
      · obtain ⟨h1, h2⟩ := ha h
        exact ⟨by omega, by omega, by rw [h2, ← X.2 ix h1]; exact (B.2.2 ix (by omega)).2⟩
      · obtain ⟨h1, h2⟩ := hb h
        exact ⟨by omega, by omega, by rw [h2, ← X.2 iy h1]; exact (B.2.2 iy (by omega)).2⟩
      · refine ih (k + 1) (by omega) sy yv mo L' B' X M ?_ f (by omega)
        rcases h with h | h
        · rcases H with H | H
          · exact Or.inl H
          · refine Or.inr (fun i hi => ?_)
            by_cases z : i = k
            · rw [z, ← ea, ← eb]; exact h
            · exact H i (by omega)
        · exact Or.inl h
      · have X' : yk_x sy yv (sy + 1) yv' := ⟨by omega, E1⟩
        refine ih (k + 1) (by omega) (sy + 1) yv' 1 L' B' ⟨by omega, fun s hs => (E1 s (by omega)).trans (X.2 s hs)⟩ (Or.inr ⟨rfl, by omega⟩) ?_ f (by omega)
        rcases H with H | H
        · exact absurd B'.1 (by omega)
        · refine Or.inr (fun i hi => ?_)
          by_cases z : i = k
          · rw [z, ← ea, ← eb]; exact ⟨sy, by omega, E2⟩
          · exact xf_H_k X' (H i (by omega))
    refine pk_le pr k (fun z => by omega) (fun _ => pk_le 4 o (fun h4 => ?_) (fun h4 => ?_))
    · have e0 := hp.2.2 h4
      have s0 : 0 < sy0 := by
        rcases Nat.eq_zero_or_pos sy0 with z | z
        · rw [z] at e0; omega
        · exact z
      have d1 : nI k / nI sy0 = nI (k / sy0) := pk_div (by omega) s0 (by omega)
      have d2 : nI k - nI k / nI sy0 * nI sy0 = nI (k % sy0) := pk_rem (by omega) s0 (by omega)
      have b1 : k / sy0 < sy0 := Nat.div_lt_of_lt_mul (by rw [← e0]; omega)
      have b2 : k % sy0 < sy0 := Nat.mod_lt _ s0
      have n0 : ¬ nI sy0 = 0 := nI_ne0 s0 (by omega)
      have ea : yk_a o sy0 yv0 k = yv0 (k / sy0) := by unfold yk_a; rw [if_neg (by omega), if_neg (by omega)]
      have eb : yk_b o sy0 yv0 k = yv0 (k % sy0) := by unfold yk_b; rw [if_neg (by omega)]
      have f1 : (24 : Int32) + nI k / nI sy0 = nI (24 + k / sy0) := by rw [d1]; exact yw_l 24 _ rfl
      have f2 : (24 : Int32) + (nI k - nI k / nI sy0 * nI sy0) = nI (24 + k % sy0) := by rw [d2]; exact yw_l 24 _ rfl
      refine ⟨n0, nm_r f1 (pk_le 4 o (fun _ => ⟨n0, ?_⟩) (fun z => by omega))⟩
      exact one (k / sy0) (k % sy0) _ _ _ _ f2 ea.symm eb.symm (fun _ => ⟨b1, rfl⟩) (fun _ => ⟨b2, rfl⟩) (fun z => by omega) (fun z => by omega)
    · have f1 : (24 : Int32) + nI k = nI (24 + k) := yw_l 24 _ rfl
      refine nm_r f1 (pk_le 4 o (fun z => by omega) (fun _ => ?_))
      have eb : yk_b o sy0 yv0 k = tn_z := if_pos (by omega)
      rcases Nat.lt_or_ge o 2 with z | z
      · have ea : yk_a o sy0 yv0 k = tn_z := if_pos z
        exact one k k _ _ _ _ f1 ea.symm eb.symm (fun z => by omega) (fun z => by omega) (fun z => rfl) (fun z => rfl)
      · have ea : yk_a o sy0 yv0 k = yv0 k := by unfold yk_a; rw [if_neg (by omega), if_pos (by omega)]
        have := hp.2.1 z (by omega)
        exact one k k _ _ _ _ f1 ea.symm eb.symm (fun z => ⟨by omega, rfl⟩) (fun z => by omega) (fun z => by omega) (fun z => rfl)
end
end
section
/-! Y: makeStates, findStates -/
section
variable {g_noted g_depth g_rules g_planted g_trees g_stateCount g_known g_listed : Int32} {b_marks b_sizes b_lefts b_costs b_lengths b_operators b_spans b_least b_ways b_tasks b_list : Nat → Int32} {c : tc_C}
/-- operator o leads from the first n rows to rows -/
def yf_D (c : tc_C) (sy : Nat) (yv : Nat → Nat → Nat) (o n : Nat) : Prop := (o < 2 → xf_H sy yv (tn_s c o tn_z tn_z)) ∧ (2 ≤ o → o < 4 → ∀ i, i < n → xf_H sy yv (tn_s c o (yv i) tn_z)) ∧ (4 ≤ o → ∀ i j, i < n → j < n → xf_H sy yv (tn_s c o (yv i) (yv j)))
theorem yf_make (W : tc_wf c) (U : yw_U c b_marks b_sizes b_lefts b_costs b_lengths) {post : Int32 → SY → Prop} {o sy0 : Nat} {yv0 : Nat → Nat → Nat} (ho : o < 6) (B0 : yb_B c sy0 yv0 b_least)
    (K : ∀ (sy : Nat) (yv : Nat → Nat → Nat) (mo : Nat) (L : Nat → Int32), yb_B c sy yv L → yk_x sy0 yv0 sy yv → yk_m mo sy0 sy → (sy = 21 ∨ yf_D c sy yv o sy0) → post (nI mo) (g_noted, g_depth, nI (tc_nr c), g_planted, g_trees, nI sy, g_known, g_listed, b_marks, b_sizes, b_lefts, b_costs, b_lengths, b_operators, b_spans, L, b_ways, b_tasks, b_list)) :
    wpY_makeStates post (g_noted, g_depth, nI (tc_nr c), g_planted, g_trees, nI sy0, g_known, g_listed, b_marks, b_sizes, b_lefts, b_costs, b_lengths, b_operators, b_spans, b_least, b_ways, b_tasks, b_list) (nI o) := by
  have h21 := B0.1
  have go : ∀ pr, yk_p o sy0 pr → ∃ f, wY_makeStates_42 post (nI o) (nI pr) (nI sy0) f 0 0 g_noted g_depth (nI (tc_nr c)) g_planted g_trees (nI sy0) g_known g_listed b_marks b_sizes b_lefts b_costs b_lengths b_operators b_spans b_least b_ways b_tasks b_list := by
    intro pr hp
    refine ⟨pr + 1, yk_42 W U ho h21 hp (fun sy yv mo L B X M H => K sy yv mo L B X M ?_) pr 0 (by omega) sy0 yv0 0 b_least B0 ⟨Nat.le_refl _, fun _ _ => rfl⟩ (Or.inl ⟨rfl, rfl⟩) (Or.inr (fun i hi => absurd hi (Nat.not_lt_zero _))) (pr + 1) (by omega)⟩
    rcases H with H | H
    · exact Or.inl H
    · refine Or.inr ⟨fun h => ?_, fun h h' i hi => ?_, fun h i j hi hj => ?_⟩
      · have := H 0 (by rw [hp.1 h]; omega)
        unfold yk_a yk_b at this
        rw [if_pos h, if_pos (by omega)] at this
        exact this
      · have := H i (by rw [hp.2.1 h h']; exact hi)
        unfold yk_a yk_b at this
        rw [if_neg (by omega), if_pos h', if_pos h'] at this
        rw [X.2 i hi]
        exact this
      · have hs : 0 < sy0 := by omega
        have e1 : (i * sy0 + j) / sy0 = i := by
          rw [Nat.mul_comm, Nat.mul_add_div hs, Nat.div_eq_of_lt hj, Nat.add_zero]
        have e2 : (i * sy0 + j) % sy0 = j := by
          rw [Nat.mul_comm, Nat.mul_add_mod, Nat.mod_eq_of_lt hj]
        have := H (i * sy0 + j) (by
          rw [hp.2.2 h]
          have : (i + 1) * sy0 ≤ sy0 * sy0 := Nat.mul_le_mul_right sy0 hi
          rw [Nat.add_mul, Nat.one_mul] at this
          omega)
        unfold yk_a yk_b at this
        rw [if_neg (by omega), if_neg (by omega), if_neg (by omega), e1, e2] at this
        rw [X.2 i hi, X.2 j hj]
        exact this
  have e2 : nI sy0 * nI sy0 = nI (sy0 * sy0) := pk_mul _ _
  refine pk_le 2 o (fun h2 => pk_le 4 o (fun h4 => nm_r e2 (go _ ⟨fun z => by omega, fun _ z => by omega, fun _ => rfl⟩)) (fun h4 => go _ ⟨fun z => by omega, fun _ z => rfl, fun z => by omega⟩)) (fun h2 => go 1 ⟨fun z => rfl, fun z => by omega, fun z => by omega⟩)
theorem yf_32 (W : tc_wf c) (U : yw_U c b_marks b_sizes b_lefts b_costs b_lengths) {post : SY → Prop} {J : Int32 → Int32 → Int32 → Int32 → Int32 → Int32 → Int32 → Int32 → Int32 → (Nat → Int32) → (Nat → Int32) → (Nat → Int32) → (Nat → Int32) → (Nat → Int32) → (Nat → Int32) → (Nat → Int32) → (Nat → Int32) → (Nat → Int32) → (Nat → Int32) → (Nat → Int32) → Prop} {sy0 : Nat} {yv0 : Nat → Nat → Nat}
    (K : ∀ (sy : Nat) (yv : Nat → Nat → Nat) (mo : Nat) (L : Nat → Int32), yb_B c sy yv L → yk_m mo sy0 sy → (mo = 0 → sy = 21 ∨ tn_K c sy yv) → J (nI mo) g_noted g_depth (nI (tc_nr c)) g_planted g_trees (nI sy) g_known g_listed b_marks b_sizes b_lefts b_costs b_lengths b_operators b_spans L b_ways b_tasks b_list) :
    ∀ d o, o + d = 6 → ∀ (sy : Nat) (yv : Nat → Nat → Nat) (mo : Nat) (L : Nat → Int32), yb_B c sy yv L → yk_m mo sy0 sy → (mo = 0 → sy = 21 ∨ ∀ q, q < o → yf_D c sy yv q sy) → ∀ f, d < f → wY_findStates_32 post J f (nI mo) (nI o) g_noted g_depth (nI (tc_nr c)) g_planted g_trees (nI sy) g_known g_listed b_marks b_sizes b_lefts b_costs b_lengths b_operators b_spans L b_ways b_tasks b_list := by
  intro d
  induction d with
  | zero =>
    intro o ho sy yv mo L B M D f hf
    obtain ⟨f, rfl⟩ : ∃ m, f = m + 1 := ⟨f - 1, by omega⟩
    have eo : o = 6 := by omega
    subst eo
    refine pk_le 6 6 (fun _ => K sy yv mo L B M (fun z => ?_)) (fun z => by omega)
    rcases D z with h | h
    · exact Or.inl h
    · refine Or.inr ⟨fun o h1 => (h o (by omega)).1 h1, fun o h1 h2 a ha => ?_, fun o h1 h2 a b ha hb => ?_⟩
      · obtain ⟨i, hi, ei⟩ := ha
        rw [← ei]; exact (h o (by omega)).2.1 h1 h2 i hi
      · obtain ⟨i, hi, ei⟩ := ha
        obtain ⟨j, hj, ej⟩ := hb
        rw [← ei, ← ej]; exact (h o (by omega)).2.2 h1 i j hi hj
  | succ d ih =>
    intro o ho sy yv mo L B M D f hf
    obtain ⟨f, rfl⟩ : ∃ m, f = m + 1 := ⟨f - 1, by omega⟩
    refine pk_le 6 o (fun z => by omega) (fun _ => yf_make W U (by omega) B (fun sy' yv' mo' L' B' X' M' D' => ?_))
    rcases M' with ⟨m1, m2⟩ | ⟨m1, m2⟩
    · subst m1; subst m2
      have D2 : mo = 0 → sy' = 21 ∨ ∀ q, q < o + 1 → yf_D c sy' yv' q sy' := fun z => by
        rcases D' with h | h
        · exact Or.inl h
        · rcases D z with h' | h'
          · exact Or.inl h'
          · refine Or.inr (fun q hq => ?_)
            by_cases y : q = o
            · rw [y]; exact h
            · obtain ⟨d1, d2, d3⟩ := h' q (by omega)
              refine ⟨fun a => xf_H_k X' (d1 a), fun a b i hi => ?_, fun a i j hi hj => ?_⟩
              · rw [X'.2 i hi]; exact xf_H_k X' (d2 a b i hi)
              · rw [X'.2 i hi, X'.2 j hj]; exact xf_H_k X' (d3 a i j hi hj)
      have hmo : mo ≤ 1 := by rcases M with ⟨m, -⟩ | ⟨m, -⟩ <;> omega
      by_cases z : mo = 0
      · subst z
        exact br_t rfl (br_t rfl (nm_r (nI_1 o) (ih (o + 1) (by omega) sy' yv' 0 L' B' M D2 f (by omega))))
      · have : mo = 1 := by omega
        subst this
        exact br_t rfl (br_f (by decide) (nm_r (nI_1 o) (ih (o + 1) (by omega) sy' yv' 1 L' B' M D2 f (by omega))))
    · subst m1
      refine br_f (by decide) (nm_r (nI_1 o) (ih (o + 1) (by omega) sy' yv' 1 L' B' (Or.inr ⟨rfl, ?_⟩) (fun z => absurd z (by decide)) f (by omega)))
      rcases M with ⟨-, m⟩ | ⟨-, m⟩ <;> omega
theorem yf_15 (W : tc_wf c) (U : yw_U c b_marks b_sizes b_lefts b_costs b_lengths) {post : SY → Prop}
    (K : ∀ (sy : Nat) (yv : Nat → Nat → Nat) (L : Nat → Int32), yb_B c sy yv L → (sy = 21 ∨ tn_K c sy yv) → post (g_noted, g_depth, nI (tc_nr c), g_planted, g_trees, nI sy, 1, g_listed, b_marks, b_sizes, b_lefts, b_costs, b_lengths, b_operators, b_spans, L, b_ways, b_tasks, b_list)) :
    ∀ d sy (yv : Nat → Nat → Nat) (mo : Nat) (L : Nat → Int32), 21 ≤ sy + d → yb_B c sy yv L → mo ≤ 1 → (mo = 0 → sy = 21 ∨ tn_K c sy yv) → ∀ f, d + 1 < f → wY_findStates_15 post f (nI mo) g_noted g_depth (nI (tc_nr c)) g_planted g_trees (nI sy) g_known g_listed b_marks b_sizes b_lefts b_costs b_lengths b_operators b_spans L b_ways b_tasks b_list := by
  intro d
  induction d with
  | zero =>
    intro sy yv mo L hd B hm D f hf
    obtain ⟨f, rfl⟩ : ∃ m, f = m + 1 := ⟨f - 1, by omega⟩
    have h21 := B.1
    exact pk_eq mo 0 (fun z => K sy yv L B (D z)) (fun z => pk_le 21 sy (fun y => K sy yv L B (Or.inl (by omega))) (fun y => by omega))
  | succ d ih =>
    intro sy yv mo L hd B hm D f hf
    obtain ⟨f, rfl⟩ : ∃ m, f = m + 1 := ⟨f - 1, by omega⟩
    have h21 := B.1
    refine pk_eq mo 0 (fun z => K sy yv L B (D z)) (fun z => pk_le 21 sy (fun y => K sy yv L B (Or.inl (by omega))) (fun y => ⟨7, ?_⟩))
    refine yf_32 W U (sy0 := sy) (yv0 := yv) (fun sy' yv' mo' L' B' M' D' => ?_) 6 0 rfl sy yv 0 L B (Or.inl ⟨rfl, rfl⟩) (fun _ => Or.inr (fun q hq => absurd hq (Nat.not_lt_zero _))) 7 (by omega)
    rcases M' with ⟨m1, m2⟩ | ⟨m1, m2⟩
    · subst m1
      obtain ⟨f, rfl⟩ : ∃ m, f = m + 1 := ⟨f - 1, by omega⟩
      exact br_t rfl (K sy' yv' L' B' (D' rfl))
    · subst m1
      exact ih sy' yv' 1 L' (by omega) B' (by omega) (fun z => absurd z (by decide)) f (by omega)
theorem yf_find (W : tc_wf c) (U : yw_U c b_marks b_sizes b_lefts b_costs b_lengths) {post : SY → Prop} (hk : g_known = 0)
    (K : ∀ (sy : Nat) (yv : Nat → Nat → Nat) (L : Nat → Int32), yb_B c sy yv L → (sy = 21 ∨ tn_K c sy yv) → post (g_noted, g_depth, nI (tc_nr c), g_planted, g_trees, nI sy, 1, g_listed, b_marks, b_sizes, b_lefts, b_costs, b_lengths, b_operators, b_spans, L, b_ways, b_tasks, b_list)) : wpY_findStates post (g_noted, g_depth, nI (tc_nr c), g_planted, g_trees, g_stateCount, g_known, g_listed, b_marks, b_sizes, b_lefts, b_costs, b_lengths, b_operators, b_spans, b_least, b_ways, b_tasks, b_list) :=
  br_t hk ⟨24, yf_15 W U K 21 0 (fun _ _ => 0) 1 b_least (by omega) ⟨by omega, fun i j _ h => absurd h (Nat.not_lt_zero _), fun s h => absurd h (Nat.not_lt_zero _)⟩ (by omega) (fun z => absurd z (by decide)) 24 (by omega)⟩
end
end
section
/-! trees: rows of costs; costs through states are the same (a shift) -/
def tt_x (op sp : Nat → Nat) (n : Nat) : Nat := if op n < 4 then n - 1 else n - 1 - sp (n - 1)
noncomputable def tt_r (c : tc_C) (op sp : Nat → Nat) : Nat → Nat → Nat → Nat
  | 0 => fun _ _ => 0
  | n + 1 => fun m => if m = n then (fun e => tc_cl (tc_st c (op n) (if op n < 2 then tn_z else tt_r c op sp n (tt_x op sp n)) (if op n < 4 then tn_z else tt_r c op sp n (n - 1)) e)) else tt_r c op sp n m
noncomputable def tt_A (c : tc_C) (op sp : Nat → Nat) (n : Nat) : Nat → Nat := tt_r c op sp (n + 1) n
noncomputable def tt_a (c : tc_C) (op sp : Nat → Nat) (n : Nat) : Nat → Nat := if op n < 2 then tn_z else tt_A c op sp (tt_x op sp n)
noncomputable def tt_b (c : tc_C) (op sp : Nat → Nat) (n : Nat) : Nat → Nat := if op n < 4 then tn_z else tt_A c op sp (n - 1)
section
variable {c : tc_C} {op sp : Nat → Nat} {tn : Nat}
theorem tt_r_A : ∀ k m, m < k → tt_r c op sp k m = tt_A c op sp m
  | 0, m, h => by omega
  | k + 1, m, h => by
    by_cases z : m = k
    · rw [z]; rfl
    · show (if m = k then _ else tt_r c op sp k m) = _
      rw [if_neg z]
      exact tt_r_A k m (by omega)
/-- the nodes of a planted forest -/
def tt_F (op sp : Nat → Nat) (tn : Nat) : Prop := tn ≤ 24 ∧ tc_pt op sp tn ∧ ∀ n, n < tn → op n < 6
theorem tt_loc (F : tt_F op sp tn) {n : Nat} (hn : n < tn) : op n < 6 ∧ 1 ≤ sp n ∧ sp n ≤ n + 1 ∧ (2 ≤ op n → 1 ≤ n) ∧ (4 ≤ op n → sp (n - 1) + 1 ≤ n) ∧ (op n < 2 → sp n = 1) ∧ (2 ≤ op n → op n < 4 → sp n = 1 + sp (n - 1)) ∧ (4 ≤ op n → sp n = 1 + sp (n - 1) + sp (n - 1 - sp (n - 1))) := by
  obtain ⟨f1, f2, f3⟩ := F
  have h6 := f3 n hn
  obtain ⟨p1, p2, p3⟩ := f2 n hn
  obtain ⟨l1, l2, l3, l4⟩ := tc_pt_loc f2 hn
  have ha : tc_ar (op n) = op n / 2 := if_pos (by omega)
  rw [ha] at l3 l4 p3
  unfold tc_sq at p3
  refine ⟨h6, l1, l2, fun h => l3 (by omega), fun h => l4 (by omega), fun h => ?_, fun h h' => ?_, fun h => ?_⟩
  · rw [if_pos (by omega)] at p3; exact p3
  · rw [if_neg (by omega), if_pos (by omega)] at p3; exact p3
  · rw [if_neg (by omega), if_neg (by omega)] at p3; omega
theorem tt_x_lt (F : tt_F op sp tn) {n : Nat} (hn : n < tn) (h2 : 2 ≤ op n) : tt_x op sp n < n := by
  have := (tt_loc F hn).2.2.2.1 h2
  unfold tt_x
  split <;> omega
theorem tt_A_eq (F : tt_F op sp tn) {n : Nat} (hn : n < tn) : tt_A c op sp n = fun e => tc_cl (tc_st c (op n) (tt_a c op sp n) (tt_b c op sp n) e) := by
  have e1 : (if op n < 2 then tn_z else tt_r c op sp n (tt_x op sp n)) = tt_a c op sp n := by
    unfold tt_a
    by_cases z : op n < 2
    · rw [if_pos z, if_pos z]
    · rw [if_neg z, if_neg z]; exact tt_r_A n _ (tt_x_lt F hn (by omega))
  have e2 : (if op n < 4 then tn_z else tt_r c op sp n (n - 1)) = tt_b c op sp n := by
    unfold tt_b
    by_cases z : op n < 4
    · rw [if_pos z, if_pos z]
    · rw [if_neg z, if_neg z]
      have := (tt_loc F hn).2.2.2.1 (by omega)
      exact tt_r_A n _ (by omega)
  show (if n = n then _ else _) = _
  rw [if_pos rfl, e1, e2]
theorem tt_A_le (F : tt_F op sp tn) {n : Nat} (hn : n < tn) (e : Nat) : tt_A c op sp n e ≤ 1000000 := by
  rw [tt_A_eq F hn]; exact tc_cl_le _
/-- t' is t but higher by k; none stays none -/
def tt_Q (N k B : Nat) (t t' : Nat → Nat) : Prop := ∀ e, e < N → (t e < 1000000 ∧ t' e = t e + k ∧ t' e ≤ B) ∨ (t e = 1000000 ∧ t' e = 1000000)
theorem tt_Q_rx {N k B r : Nat} {lf cf rc t t' : Nat → Nat} (h : tt_Q N k B t t') (hB : B + 9 < 1000000) (hl : lf r < N) (hc : cf r < N) (h9 : rc r ≤ 9) : tt_Q N k (B + 9) (tr_rx lf cf rc t r) (tr_rx lf cf rc t' r) := by
  intro e he
  have hs := h _ hc
  have ht := h _ hl
  have he' := h e he
  unfold tr_rx tr_nw
  by_cases z : e = lf r
  · rw [if_pos z, if_pos z]
    rcases hs with ⟨s1, s2, s3⟩ | ⟨s1, s2⟩
    · rw [if_pos s1, if_pos (show t' (cf r) < 1000000 by omega)]
      rcases ht with ⟨q1, q2, q3⟩ | ⟨q1, q2⟩
      · by_cases y : t (cf r) + rc r < t (lf r)
        · rw [if_pos y, if_pos (by omega)]; exact Or.inl ⟨by omega, by omega, by omega⟩
        · rw [if_neg y, if_neg (by omega)]; exact Or.inl ⟨by omega, by omega, by omega⟩
      · rw [if_pos (by omega), if_pos (by omega)]; exact Or.inl ⟨by omega, by omega, by omega⟩
    · rw [if_neg (show ¬ t (cf r) < 1000000 by omega), if_neg (show ¬ t' (cf r) < 1000000 by omega)]
      rcases ht with ⟨q1, q2, q3⟩ | ⟨q1, q2⟩
      · rw [if_neg (by omega), if_neg (by omega)]; exact Or.inl ⟨by omega, by omega, by omega⟩
      · rw [if_neg (by omega), if_neg (by omega)]; exact Or.inr ⟨by omega, by omega⟩
  · rw [if_neg z, if_neg z]
    rcases he' with ⟨q1, q2, q3⟩ | q
    · exact Or.inl ⟨q1, q2, by omega⟩
    · exact Or.inr q
theorem tt_Q_ps (W : tc_wf c) {k B : Nat} {t t' : Nat → Nat} (h : tt_Q (tc_N c) k B t t') : ∀ j, j ≤ tc_nr c → B + 9 * j < 1000000 → tt_Q (tc_N c) k (B + 9 * j) (tr_ps (tc_lf c) (tc_cf c) (tc_rc c) t j) (tr_ps (tc_lf c) (tc_cf c) (tc_rc c) t' j)
  | 0, _, _ => h
  | j + 1, hj, hB => by
    have hN := tc_N_le W
    have w := W.2 j (by omega)
    exact tt_Q_rx (tt_Q_ps W h j (by omega) (by omega)) (by omega) (by have := w.1; omega) (tc_cf_lt W (by omega)) w.2.1
theorem tt_Q_mono {N k B B' : Nat} {t t' : Nat → Nat} (h : tt_Q N k B t t') (hB : B ≤ B') : tt_Q N k B' t t' := fun e he => by
  rcases h e he with ⟨q1, q2, q3⟩ | q
  · exact Or.inl ⟨q1, q2, by omega⟩
  · exact Or.inr q
theorem tt_Q_rd (W : tc_wf c) {k B : Nat} {t t' : Nat → Nat} (h : tt_Q (tc_N c) k B t t') : ∀ j, B + 90 * j < 1000000 → tt_Q (tc_N c) k (B + 90 * j) (tr_rd (tc_lf c) (tc_cf c) (tc_rc c) (tc_nr c) t j) (tr_rd (tc_lf c) (tc_cf c) (tc_rc c) (tc_nr c) t' j)
  | 0, _ => h
  | j + 1, hB => by
    have h10 := W.1
    exact tt_Q_mono (tt_Q_ps W (tt_Q_rd W h j (by omega)) (tc_nr c) (Nat.le_refl _) (by omega)) (by omega)
theorem tt_Q_t0 (W : tc_wf c) {o ka kb Ba Bb : Nat} {a a' b b' : Nat → Nat} (ha : tt_Q (tc_N c) ka Ba a a') (hb : tt_Q (tc_N c) kb Bb b b') (hB : Ba + Bb < 1000000) (h2 : o < 2 → ka = 0) (h4 : o < 4 → kb = 0) :
    tt_Q (tc_N c) (ka + kb) (Ba + Bb) (tc_t0 c o a b) (tc_t0 c o a' b') := by
  intro e he
  by_cases z : e < 4
  · rw [tc_t0_g o a b z, tc_t0_g o a' b' z]; exact Or.inr ⟨rfl, rfl⟩
  · obtain ⟨p, hp, ep⟩ := tc_sur (c := c) (e := e) (by omega) he
    rw [← ep, tc_t0_h W o a b hp, tc_t0_h W o a' b' hp]
    unfold tc_hp
    by_cases y : tc_mk c p = o
    · rw [if_pos y, if_pos y]
      obtain ⟨l1, l2, l3, l4, l5, -⟩ := tc_loc W hp.1
      have qa : (tc_ha c o a p < 1000000 ∧ tc_ha c o a' p = tc_ha c o a p + ka ∧ tc_ha c o a' p ≤ Ba) ∨ (tc_ha c o a p = 1000000 ∧ tc_ha c o a' p = 1000000) := by
        unfold tc_ha
        by_cases x : 2 ≤ o
        · rw [if_pos x, if_pos x]
          refine ha _ (tc_en_lt W ?_)
          unfold tc_fp
          split
          · exact (l4 (by omega) hp.2).2
          · exact (l5 (by omega) hp.2).2
        · rw [if_neg x, if_neg x]
          have := h2 (by omega)
          exact Or.inl ⟨by omega, by omega, by omega⟩
      have qb : (tc_hb c o b p < 1000000 ∧ tc_hb c o b' p = tc_hb c o b p + kb ∧ tc_hb c o b' p ≤ Bb) ∨ (tc_hb c o b p = 1000000 ∧ tc_hb c o b' p = 1000000) := by
        unfold tc_hb
        by_cases x : 4 ≤ o
        · rw [if_pos x, if_pos x]
          exact hb _ (tc_en_lt W (l4 (by omega) hp.2).2)
        · rw [if_neg x, if_neg x]
          have := h4 (by omega)
          exact Or.inl ⟨by omega, by omega, by omega⟩
      generalize tc_ha c o a p = x1 at qa ⊢
      generalize tc_ha c o a' p = x2 at qa ⊢
      generalize tc_hb c o b p = x3 at qb ⊢
      generalize tc_hb c o b' p = x4 at qb ⊢
      have s1 : ∀ x y, x < 1000000 → y < 1000000 → tc_sm x y = x + y := fun x y h h' => by unfold tc_sm; rw [if_neg (by omega), if_pos h']
      have s2 : ∀ x y, x = 1000000 ∨ y = 1000000 → tc_sm x y = 1000000 := fun x y h => by
        unfold tc_sm
        split
        · rfl
        · rw [if_neg (by omega)]
      rcases qa with ⟨a1, a2, a3⟩ | ⟨a1, a2⟩
      · rcases qb with ⟨b1, b2, b3⟩ | ⟨b1, b2⟩
        · rw [s1 x1 x3 a1 b1, s1 x2 x4 (by omega) (by omega)]; exact Or.inl ⟨by omega, by omega, by omega⟩
        · rw [s2 x1 x3 (Or.inr b1), s2 x2 x4 (Or.inr b2)]; exact Or.inr ⟨rfl, rfl⟩
      · rw [s2 x1 x3 (Or.inl a1), s2 x2 x4 (Or.inl a2)]; exact Or.inr ⟨rfl, rfl⟩
    · rw [if_neg y, if_neg y]; exact Or.inr ⟨rfl, rfl⟩
theorem tt_Q_st (W : tc_wf c) {o ka kb Ba Bb : Nat} {a a' b b' : Nat → Nat} (ha : tt_Q (tc_N c) ka Ba a a') (hb : tt_Q (tc_N c) kb Bb b b') (hB : Ba + Bb + 450 < 1000000) (h2 : o < 2 → ka = 0) (h4 : o < 4 → kb = 0) :
    tt_Q (tc_N c) (ka + kb) (Ba + Bb + 450) (tc_st c o a b) (tc_st c o a' b') :=
  tt_Q_mono (tt_Q_rd W (tt_Q_t0 W ha hb (by omega) h2 h4) 5 (by omega)) (by omega)
theorem tt_Q_z {N : Nat} : tt_Q N 0 0 tn_z tn_z := fun e _ => Or.inl ⟨by show 0 < 1000000; omega, rfl, Nat.le_refl _⟩
theorem tt_Q_cl {N k B : Nat} {t t' : Nat → Nat} (hB : B < 1000000) (h : tt_Q N k B t t') : ∀ e, e < N → tc_cl (t' e) = t' e := fun e he => by
  unfold tc_cl
  rcases h e he with ⟨q1, q2, q3⟩ | ⟨q1, q2⟩
  · rw [if_pos (by omega)]
  · rw [if_neg (by omega), q2]
/-- the bound: 450 a node -/
theorem tt_A_Q (W : tc_wf c) (F : tt_F op sp tn) : ∀ n, n < tn → tt_Q (tc_N c) 0 (450 * sp n) (tt_A c op sp n) (tt_A c op sp n) := by
  intro n
  induction n using Nat.strongRecOn with
  | ind n ih =>
    intro hn
    have h24 := F.1
    obtain ⟨l1, l2, l3, l4, l5, l6, l7, l8⟩ := tt_loc F hn
    have key : ∀ Ba Bb, tt_Q (tc_N c) 0 Ba (tt_a c op sp n) (tt_a c op sp n) → tt_Q (tc_N c) 0 Bb (tt_b c op sp n) (tt_b c op sp n) → Ba + Bb + 450 ≤ 450 * sp n → tt_Q (tc_N c) 0 (450 * sp n) (tt_A c op sp n) (tt_A c op sp n) := by
      intro Ba Bb ha hb hB
      have q := tt_Q_st W (o := op n) ha hb (by omega) (fun _ => rfl) (fun _ => rfl)
      have cl := tt_Q_cl (by omega) q
      intro e he
      have e1 : tt_A c op sp n e = tc_st c (op n) (tt_a c op sp n) (tt_b c op sp n) e := by rw [tt_A_eq F hn]; exact cl e he
      rw [e1]
      rcases q e he with ⟨q1, q2, q3⟩ | q
      · exact Or.inl ⟨q1, q2, by omega⟩
      · exact Or.inr q
    have hx : 2 ≤ op n → tt_a c op sp n = tt_A c op sp (tt_x op sp n) := fun h => if_neg (by omega)
    have hy : 4 ≤ op n → tt_b c op sp n = tt_A c op sp (n - 1) := fun h => if_neg (by omega)
    have ha0 : op n < 2 → tt_a c op sp n = tn_z := fun h => if_pos h
    have hb0 : op n < 4 → tt_b c op sp n = tn_z := fun h => if_pos h
    rcases Nat.lt_or_ge (op n) 2 with z | z
    · refine key 0 0 ?_ ?_ (by rw [l6 z]; omega)
      · rw [ha0 z]; exact tt_Q_z
      · rw [hb0 (by omega)]; exact tt_Q_z
    · have hn1 := l4 z
      rcases Nat.lt_or_ge (op n) 4 with y | y
      · refine key (450 * sp (n - 1)) 0 ?_ ?_ (by rw [l7 z y]; omega)
        · rw [hx z, show tt_x op sp n = n - 1 from if_pos y]; exact ih (n - 1) (by omega) (by omega)
        · rw [hb0 y]; exact tt_Q_z
      · refine key (450 * sp (n - 1 - sp (n - 1))) (450 * sp (n - 1)) ?_ ?_ (by rw [l8 y]; omega)
        · rw [hx z, show tt_x op sp n = n - 1 - sp (n - 1) from if_neg (by omega)]; exact ih _ (by omega) (by omega)
        · rw [hy y]; exact ih (n - 1) (by omega) (by omega)
/-- the node's own row is what is tried, with no cutting -/
theorem tt_A_st (W : tc_wf c) (F : tt_F op sp tn) {n : Nat} (hn : n < tn) : ∀ e, e < tc_N c → tt_A c op sp n e = tc_st c (op n) (tt_a c op sp n) (tt_b c op sp n) e := by
  have h24 := F.1
  obtain ⟨l1, l2, l3, l4, l5, l6, l7, l8⟩ := tt_loc F hn
  have key : ∀ Ba Bb, tt_Q (tc_N c) 0 Ba (tt_a c op sp n) (tt_a c op sp n) → tt_Q (tc_N c) 0 Bb (tt_b c op sp n) (tt_b c op sp n) → Ba + Bb + 450 < 1000000 → ∀ e, e < tc_N c → tt_A c op sp n e = tc_st c (op n) (tt_a c op sp n) (tt_b c op sp n) e := by
    intro Ba Bb ha hb hB e he
    rw [tt_A_eq F hn]
    exact tt_Q_cl (by omega) (tt_Q_st W (o := op n) ha hb hB (fun _ => rfl) (fun _ => rfl)) e he
  have lsp : ∀ m, m < tn → sp m ≤ 24 := fun m hm => by have := (tt_loc F hm).2.2.1; omega
  have qa : ∃ B, B ≤ 450 * 24 ∧ tt_Q (tc_N c) 0 B (tt_a c op sp n) (tt_a c op sp n) := by
    by_cases z : op n < 2
    · exact ⟨0, by omega, by unfold tt_a; rw [if_pos z]; exact tt_Q_z⟩
    · have hx := tt_x_lt F hn (by omega)
      have := lsp (tt_x op sp n) (by omega)
      exact ⟨450 * sp (tt_x op sp n), by omega, by unfold tt_a; rw [if_neg z]; exact tt_A_Q W F _ (by omega)⟩
  have qb : ∃ B, B ≤ 450 * 24 ∧ tt_Q (tc_N c) 0 B (tt_b c op sp n) (tt_b c op sp n) := by
    by_cases z : op n < 4
    · exact ⟨0, by omega, by unfold tt_b; rw [if_pos z]; exact tt_Q_z⟩
    · have := l4 (by omega)
      have := lsp (n - 1) (by omega)
      exact ⟨450 * sp (n - 1), by omega, by unfold tt_b; rw [if_neg z]; exact tt_A_Q W F _ (by omega)⟩
  obtain ⟨Ba, a1, a2⟩ := qa
  obtain ⟨Bb, b1, b2⟩ := qb
  exact key Ba Bb a2 b2 (by omega)
/-- a row reckoned from states: the state's row and a base -/
theorem tt_Q_low {N k B : Nat} {t A : Nat → Nat} (h : tt_Q N k B t A) (hk : k ≤ B) (hB : B < 1000000) : tt_Q N (k + tn_l t N) B (tn_v t N) A ∧ k + tn_l t N ≤ B := by
  constructor
  · intro e he
    unfold tn_v
    rw [if_pos he]
    rcases h e he with ⟨q1, q2, q3⟩ | ⟨q1, q2⟩
    · have lb := tn_mn_lb t N e he
      have el : tn_l t N = tn_mn t N := if_neg (by omega)
      rw [if_pos q1]
      exact Or.inl ⟨by omega, by omega, q3⟩
    · rw [if_neg (by omega)]; exact Or.inr ⟨rfl, q2⟩
  · unfold tn_l
    by_cases z : tn_mn t N = 1000000
    · rw [if_pos z]; exact hk
    · rw [if_neg z]
      rcases tn_mn_at t N with y | ⟨j, y1, y2⟩
      · exact absurd y z
      · rcases h j y1 with ⟨q1, q2, q3⟩ | ⟨q1, q2⟩
        · omega
        · omega
end
end
section
/-! X: labelByTable, labelCosts, labelTree -/
section
variable {f_drafted f_patternHeight f_rules f_nodes f_treeHeight f_isLaid f_entries f_stateCount f_isWhole f_tooMany f_trialLeast f_covered f_works f_fromStates f_whereFirst f_whereSecond : Int32} {a_draft a_patternBegin a_left a_ruleCost a_ruleSize a_rulePart a_operator a_firstPart a_secondPart a_stack a_treeBegin a_helperOperator a_helperFirst a_helperSecond a_chainFrom a_openParts a_stateCost a_leafState a_leafAdd a_oneState a_oneAdd a_twoState a_twoAdd a_trial a_nodeCost a_nodeWays a_cover a_workEntry a_workNode a_nodeState a_nodeBase : Nat → Int32} {c : tc_C} {op sp : Nat → Nat} {tn : Nat}
def xn_N (op sp : Nat → Nat) (tn : Nat) (operator firstPart secondPart : Nat → Int32) : Prop := ∀ n, n < tn →
  operator n = nI (op n) ∧ firstPart n = (if op n < 2 then -1 else nI (tt_x op sp n)) ∧ secondPart n = (if op n < 4 then -1 else nI (n - 1))
def xn_I (c : tc_C) (op sp : Nat → Nat) (sc : Nat) (sv : Nat → Nat → Nat) (NS NB : Nat → Int32) (m : Nat) : Prop :=
  NS m = nI 20 ∨ ∃ s bs, s < sc ∧ NS m = nI s ∧ NB m = nI bs ∧ bs ≤ 450 * sp m ∧ tt_Q (tc_N c) bs (450 * sp m) (sv s) (tt_A c op sp m)
theorem xn_I_x {sc sc' : Nat} {sv sv' : Nat → Nat → Nat} {tm tm' : Int32} {NS NB NS' NB' : Nat → Int32} {m : Nat} (X : xb_X sc sv tm sc' sv' tm') (h : xn_I c op sp sc sv NS NB m) (h1 : NS' m = NS m) (h2 : NB' m = NB m) : xn_I c op sp sc' sv' NS' NB' m := by
  rcases h with h | ⟨s, bs, a1, a2, a3, a4, a5⟩
  · exact Or.inl (h1.trans h)
  · exact Or.inr ⟨s, bs, Nat.lt_of_lt_of_le a1 X.1, h1.trans a2, h2.trans a3, a4, by rw [X.2.1 s a1]; exact a5⟩
theorem tt_Q_ext {N k B : Nat} {t t' t'' : Nat → Nat} (h : tt_Q N k B t t') (he : ∀ e, e < N → t'' e = t' e) : tt_Q N k B t t'' := fun e hn => by rw [he e hn]; exact h e hn
theorem tt_core (W : tc_wf c) (F : tt_F op sp tn) {n ka kb Ba Bb : Nat} {a b : Nat → Nat} (hn : n < tn) (ha : tt_Q (tc_N c) ka Ba a (tt_a c op sp n)) (hb : tt_Q (tc_N c) kb Bb b (tt_b c op sp n)) (hB : Ba + Bb + 450 ≤ 450 * sp n) (h1 : ka ≤ Ba) (h2 : kb ≤ Bb)
    (h3 : op n < 2 → ka = 0) (h4 : op n < 4 → kb = 0) : tt_Q (tc_N c) (ka + kb + tn_a c (op n) a b) (450 * sp n) (tn_s c (op n) a b) (tt_A c op sp n) ∧ ka + kb + tn_a c (op n) a b ≤ 450 * sp n := by
  have h24 := F.1
  have l3 := (tt_loc F hn).2.2.1
  have q := tt_Q_ext (tt_Q_st W (o := op n) ha hb (by omega) h3 h4) (tt_A_st W F hn)
  exact tt_Q_low (tt_Q_mono q hB) (by omega) (by omega)
theorem xn_byT (W : tc_wf c) (R : xl_R c a_left a_ruleCost a_ruleSize a_rulePart) (A : xl_A c a_helperOperator a_helperFirst a_helperSecond a_chainFrom) (F : tt_F op sp tn) (Nd : xn_N op sp tn a_operator a_firstPart a_secondPart) {post : SX → Prop} {n b0 sc0 : Nat} {sv0 : Nat → Nat → Nat} (hn : n < tn) (hI : ∀ m, b0 ≤ m → m < n → xn_I c op sp sc0 sv0 a_nodeState a_nodeBase m) (hb : 2 ≤ op n → b0 ≤ tt_x op sp n) (T : xb_T c sc0 sv0 f_tooMany a_stateCost a_leafState a_leafAdd a_oneState a_oneAdd a_twoState a_twoAdd)
    (K : ∀ (sc : Nat) (sv : Nat → Nat → Nat) (tm tl fs w1 w2 : Int32) (SC LS LA OS OA TS TA tr : Nat → Int32) (NS NB : Nat → Int32), xb_T c sc sv tm SC LS LA OS OA TS TA → xb_X sc0 sv0 f_tooMany sc sv tm → (∀ m, m ≠ n → NS m = a_nodeState m ∧ NB m = a_nodeBase m) → xn_I c op sp sc sv NS NB n → post (f_drafted, f_patternHeight, nI (tc_nr c), f_nodes, f_treeHeight, f_isLaid, nI (tc_N c), nI sc, f_isWhole, tm, tl, f_covered, f_works, fs, w1, w2, a_draft, a_patternBegin, a_left, a_ruleCost, a_ruleSize, a_rulePart, a_operator, a_firstPart, a_secondPart, a_stack, a_treeBegin, a_helperOperator, a_helperFirst, a_helperSecond, a_chainFrom, a_openParts, SC, LS, LA, OS, OA, TS, TA, tr, a_nodeCost, a_nodeWays, a_cover, a_workEntry, a_workNode, NS, NB)) :
    wpX_labelByTable post (f_drafted, f_patternHeight, nI (tc_nr c), f_nodes, f_treeHeight, f_isLaid, nI (tc_N c), nI sc0, f_isWhole, f_tooMany, f_trialLeast, f_covered, f_works, f_fromStates, f_whereFirst, f_whereSecond, a_draft, a_patternBegin, a_left, a_ruleCost, a_ruleSize, a_rulePart, a_operator, a_firstPart, a_secondPart, a_stack, a_treeBegin, a_helperOperator, a_helperFirst, a_helperSecond, a_chainFrom, a_openParts, a_stateCost, a_leafState, a_leafAdd, a_oneState, a_oneAdd, a_twoState, a_twoAdd, a_trial, a_nodeCost, a_nodeWays, a_cover, a_workEntry, a_workNode, a_nodeState, a_nodeBase) (nI n) := by
  have h24 := F.1
  obtain ⟨n1, n2, n3⟩ := Nd n hn
  obtain ⟨l1, l2, l3, l4, l5, l6, l7, l8⟩ := tt_loc F hn
  have i1 : vp_in (nI n) 24 := vp_in_nI (by omega) (by decide)
  have c1 : a_operator (nI n).toNatClampNeg = nI (op n) := by rw [nI_clamp (by omega)]; exact n1
  have c2 : a_firstPart (nI n).toNatClampNeg = (if op n < 2 then -1 else nI (tt_x op sp n)) := by rw [nI_clamp (by omega)]; exact n2
  have c3 : a_secondPart (nI n).toNatClampNeg = (if op n < 4 then -1 else nI (n - 1)) := by rw [nI_clamp (by omega)]; exact n3
  have ne1 : ∀ m, m < 2 ^ 31 → ¬ nI m = -1 := fun m hm q => by
    have h := nI_pos hm
    rw [q] at h
    exact h (by decide)
  have up : ∀ (f : Nat → Int32) (x : Int32), upd f (nI n).toNatClampNeg x = upd f n x := fun f x => by rw [nI_clamp (by omega)]
  rcases Nat.lt_or_ge (op n) 2 with z | z
  · -- a leaf
    rw [if_pos z] at c2
    refine ⟨i1, nm_r c1 ⟨i1, nm_r c2 ⟨i1, nm_r c3 (br_t rfl ?_)⟩⟩⟩
    refine xb_leaf W R A T z (fun sc sv tm x tl fs w1 w2 SC LS LA OS OA TS TA tr T' X' V' => ?_)
    refine ⟨i1, nm_r (up _ _) ⟨vp_in_nI z (by decide), i1, nm_r (e' := upd a_nodeBase n (LA (op n))) (by rw [up, nI_clamp (by omega)]) (K sc sv tm tl fs w1 w2 SC LS LA OS OA TS TA tr _ _ T' X' (fun m hm => ⟨pk_un hm, pk_un hm⟩) ?_)⟩⟩
    rcases V' with ⟨s, v1, v2, v3, v4⟩ | ⟨v1, v2⟩
    · have q := tt_core W F hn (ka := 0) (kb := 0) (Ba := 0) (Bb := 0) (a := tn_z) (b := tn_z) (by unfold tt_a; rw [if_pos z]; exact tt_Q_z) (by unfold tt_b; rw [if_pos (by omega)]; exact tt_Q_z) (by rw [l6 z]; omega) (by omega) (by omega) (fun _ => rfl) (fun _ => rfl)
      simp only [Nat.zero_add] at q
      exact Or.inr ⟨s, tn_a c (op n) tn_z tn_z, v1, by rw [pk_us]; exact v2, by rw [pk_us]; exact v4, q.2, by rw [v3]; exact q.1⟩
    · exact Or.inl (by rw [pk_us]; exact v1)
  · rw [if_neg (by omega)] at c2
    have hx := tt_x_lt F hn z
    have hbx := hb z
    have hn1 := l4 z
    have i2 : vp_in (nI (tt_x op sp n)) 24 := vp_in_nI (by omega) (by decide)
    have c4 : a_nodeState (nI (tt_x op sp n)).toNatClampNeg = a_nodeState (tt_x op sp n) := by rw [nI_clamp (by omega)]
    have bad : ∀ NS : Nat → Int32, NS = upd a_nodeState n 20 → post (f_drafted, f_patternHeight, nI (tc_nr c), f_nodes, f_treeHeight, f_isLaid, nI (tc_N c), nI sc0, f_isWhole, f_tooMany, f_trialLeast, f_covered, f_works, f_fromStates, f_whereFirst, f_whereSecond, a_draft, a_patternBegin, a_left, a_ruleCost, a_ruleSize, a_rulePart, a_operator, a_firstPart, a_secondPart, a_stack, a_treeBegin, a_helperOperator, a_helperFirst, a_helperSecond, a_chainFrom, a_openParts, a_stateCost, a_leafState, a_leafAdd, a_oneState, a_oneAdd, a_twoState, a_twoAdd, a_trial, a_nodeCost, a_nodeWays, a_cover, a_workEntry, a_workNode, NS, a_nodeBase) := by
      intro NS e
      subst e
      exact K sc0 sv0 f_tooMany _ _ _ _ _ _ _ _ _ _ _ _ _ a_nodeBase T xb_X_rf (fun m hm => ⟨pk_un hm, rfl⟩) (Or.inl pk_us)
    have ea : tt_a c op sp n = tt_A c op sp (tt_x op sp n) := if_neg (by omega)
    refine ⟨i1, nm_r c1 ⟨i1, nm_r c2 ⟨i1, nm_r c3 (br_f (ne1 _ (by omega)) ⟨i2, ?_⟩)⟩⟩⟩
    rcases hI (tt_x op sp n) hbx hx with q20 | ⟨s, bs, q1, q2, q3, q4, q5⟩
    · exact br_t (c4.trans q20) ⟨i1, nm_r (up _ _) (bad _ rfl)⟩
    · have s20 : sc0 ≤ 20 := T.1.1
      have d1 : ¬ a_nodeState (nI (tt_x op sp n)).toNatClampNeg = 20 := by
        rw [c4, q2]
        exact fun h => by
          have := (nI_eq (a := s) (b := 20) (by omega) (by decide)).mp h
          omega
      refine br_f d1 ?_
      rcases Nat.lt_or_ge (op n) 4 with y | y
      · -- one part
        rw [if_pos y]
        refine br_t rfl (br_t rfl ⟨i2, ?_⟩)
        have ex : tt_x op sp n = n - 1 := if_pos y
        obtain ⟨o, eo⟩ : ∃ o, op n = o + 2 := ⟨op n - 2, by omega⟩
        have ho : o < 2 := by omega
        rw [c4, q2, eo]
        refine xb_one W R A T ho q1 (fun sc sv tm x tl fs w1 w2 SC LS LA OS OA TS TA tr T' X' V' => ?_)
        have e1 : (22 : Int32) * (nI (o + 2) - 2) + upd a_nodeState n x (nI (tt_x op sp n)).toNatClampNeg = nI (22 * o + s) := by
          rw [nI_clamp (by omega), pk_un (by omega), q2, show nI (o + 2) - 2 = nI o from pk_sub (a := o + 2) (b := 2) (by omega), show (22 : Int32) = nI 22 from rfl, pk_mul, nI_add]
        refine ⟨i1, nm_r (up _ _) ⟨i2, i2, pk_in (22 * o + s) 44 (by omega) e1, i1, nm_r (e' := upd a_nodeBase n (nI bs + OA (22 * o + s))) (by rw [up, e1, nI_clamp (by omega), nI_clamp (by omega), q3]) (K sc sv tm tl fs w1 w2 SC LS LA OS OA TS TA tr _ _ T' X' (fun m hm => ⟨pk_un hm, pk_un hm⟩) ?_)⟩⟩
        rcases V' with ⟨s', v1, v2, v3, v4⟩ | ⟨v1, v2⟩
        · have q := tt_core W F hn (ka := bs) (kb := 0) (Ba := 450 * sp (tt_x op sp n)) (Bb := 0) (a := sv0 s) (b := tn_z) (by rw [ea]; exact q5) (by unfold tt_b; rw [if_pos y]; exact tt_Q_z) (by rw [l7 z y, ex]; omega) q4 (by omega) (fun _ => by omega) (fun _ => rfl)
          rw [eo, Nat.add_zero] at q
          exact Or.inr ⟨s', bs + tn_a c (o + 2) (sv0 s) tn_z, v1, by rw [pk_us]; exact v2, by rw [pk_us, v4, nI_add], q.2, by rw [v3]; exact q.1⟩
        · exact Or.inl (by rw [pk_us]; exact v1)
      · -- two parts
        rw [if_neg (by omega)]
        have i3 : vp_in (nI (n - 1)) 24 := vp_in_nI (by omega) (by decide)
        have c5 : a_nodeState (nI (n - 1)).toNatClampNeg = a_nodeState (n - 1) := by rw [nI_clamp (by omega)]
        have ex : tt_x op sp n = n - 1 - sp (n - 1) := if_neg (by omega)
        have eb : tt_b c op sp n = tt_A c op sp (n - 1) := if_neg (by omega)
        refine br_f (ne1 _ (by omega)) ⟨i3, ?_⟩
        rcases hI (n - 1) (by omega) (by omega) with r20 | ⟨t, bt, r1, r2, r3, r4, r5⟩
        · exact br_t (c5.trans r20) ⟨i1, nm_r (up _ _) (bad _ rfl)⟩
        · have d2 : ¬ a_nodeState (nI (n - 1)).toNatClampNeg = 20 := by
            rw [c5, r2]
            exact fun h => by
              have := (nI_eq (a := t) (b := 20) (by omega) (by decide)).mp h
              omega
          refine br_f d2 (br_f (ne1 _ (by omega)) ⟨i2, i3, ?_⟩)
          obtain ⟨o, eo⟩ : ∃ o, op n = o + 4 := ⟨op n - 4, by omega⟩
          have ho : o < 2 := by omega
          rw [c4, q2, c5, r2, eo]
          refine xb_two W R A T ho q1 r1 (fun sc sv tm x tl fs w1 w2 SC LS LA OS OA TS TA tr T' X' V' => ?_)
          have e1 : (484 : Int32) * (nI (o + 4) - 4) + 22 * upd a_nodeState n x (nI (tt_x op sp n)).toNatClampNeg + upd a_nodeState n x (nI (n - 1)).toNatClampNeg = nI (484 * o + 22 * s + t) := by
            rw [nI_clamp (by omega), nI_clamp (by omega), pk_un (by omega), pk_un (by omega), q2, r2, show nI (o + 4) - 4 = nI o from pk_sub (a := o + 4) (b := 4) (by omega), show (484 : Int32) = nI 484 from rfl, show (22 : Int32) = nI 22 from rfl, pk_mul, pk_mul, nI_add, nI_add]
          refine ⟨i1, nm_r (up _ _) ⟨i2, i3, i2, i3, pk_in (484 * o + 22 * s + t) 968 (by omega) e1, i1, nm_r (e' := upd a_nodeBase n (nI bs + nI bt + TA (484 * o + 22 * s + t))) (by rw [up, e1, nI_clamp (by omega), nI_clamp (by omega), nI_clamp (by omega), q3, r3]) (K sc sv tm tl fs w1 w2 SC LS LA OS OA TS TA tr _ _ T' X' (fun m hm => ⟨pk_un hm, pk_un hm⟩) ?_)⟩⟩
          rcases V' with ⟨s', v1, v2, v3, v4⟩ | ⟨v1, v2⟩
          · have q := tt_core W F hn (ka := bs) (kb := bt) (Ba := 450 * sp (tt_x op sp n)) (Bb := 450 * sp (n - 1)) (a := sv0 s) (b := sv0 t) (by rw [ea]; exact q5) (by rw [eb]; exact r5) (by rw [l8 y, ex]; omega) q4 r4 (fun _ => by omega) (fun _ => by omega)
            rw [eo] at q
            exact Or.inr ⟨s', bs + bt + tn_a c (o + 4) (sv0 s) (sv0 t), v1, by rw [pk_us]; exact v2, by rw [pk_us, v4, nI_add, nI_add], q.2, by rw [v3]; exact q.1⟩
          · exact Or.inl (by rw [pk_us]; exact v1)
end
end
section
/-! X: labelCosts, labelTree -/
section
variable {f_drafted f_patternHeight f_rules f_nodes f_treeHeight f_isLaid f_entries f_stateCount f_isWhole f_tooMany f_trialLeast f_covered f_works f_fromStates f_whereFirst f_whereSecond : Int32} {a_draft a_patternBegin a_left a_ruleCost a_ruleSize a_rulePart a_operator a_firstPart a_secondPart a_stack a_treeBegin a_helperOperator a_helperFirst a_helperSecond a_chainFrom a_openParts a_stateCost a_leafState a_leafAdd a_oneState a_oneAdd a_twoState a_twoAdd a_trial a_nodeCost a_nodeWays a_cover a_workEntry a_workNode a_nodeState a_nodeBase : Nat → Int32} {c : tc_C} {op sp : Nat → Nat} {tn : Nat}
def xn_C (c : tc_C) (op sp : Nat → Nat) (NC : Nat → Int32) (n : Nat) : Prop := ∀ e, e < tc_N c → NC (74 * n + e) = nI (tt_A c op sp n e)
theorem xn_104 (W : tc_wf c) {post : SX → Prop} {n : Nat} {w : Nat → Nat} (hn : n < 24) (T : xt_T (tc_N c) w a_trial)
    (K : ∀ NC : Nat → Int32, (∀ e, e < tc_N c → NC (74 * n + e) = nI (w e)) → (∀ j, (j < 74 * n ∨ 74 * n + 74 ≤ j) → NC j = a_nodeCost j) → post (f_drafted, f_patternHeight, nI (tc_nr c), f_nodes, f_treeHeight, f_isLaid, nI (tc_N c), f_stateCount, f_isWhole, f_tooMany, f_trialLeast, f_covered, f_works, f_fromStates, f_whereFirst, f_whereSecond, a_draft, a_patternBegin, a_left, a_ruleCost, a_ruleSize, a_rulePart, a_operator, a_firstPart, a_secondPart, a_stack, a_treeBegin, a_helperOperator, a_helperFirst, a_helperSecond, a_chainFrom, a_openParts, a_stateCost, a_leafState, a_leafAdd, a_oneState, a_oneAdd, a_twoState, a_twoAdd, a_trial, NC, a_nodeWays, a_cover, a_workEntry, a_workNode, a_nodeState, a_nodeBase)) :
    ∀ d k, k + d = tc_N c → ∀ NC : Nat → Int32, (∀ e, e < k → NC (74 * n + e) = nI (w e)) → (∀ j, (j < 74 * n ∨ 74 * n + 74 ≤ j) → NC j = a_nodeCost j) → ∀ f, d < f → wX_labelCosts_104 post (nI n) f_drafted f_patternHeight (nI (tc_nr c)) f_nodes f_treeHeight f_isLaid (nI (tc_N c)) f_stateCount f_isWhole f_tooMany f_trialLeast f_covered f_works f_fromStates f_whereFirst f_whereSecond f (nI k) a_draft a_patternBegin a_left a_ruleCost a_ruleSize a_rulePart a_operator a_firstPart a_secondPart a_stack a_treeBegin a_helperOperator a_helperFirst a_helperSecond a_chainFrom a_openParts a_stateCost a_leafState a_leafAdd a_oneState a_oneAdd a_twoState a_twoAdd a_trial NC a_nodeWays a_cover a_workEntry a_workNode a_nodeState a_nodeBase := by
  have hN := tc_N_le W
  intro d
  induction d with
  | zero =>
    intro k hk NC h1 h2 f hf
    obtain ⟨f, rfl⟩ : ∃ m, f = m + 1 := ⟨f - 1, by omega⟩
    have ek : k = tc_N c := by omega
    subst ek
    exact pk_le (tc_N c) (tc_N c) (fun _ => K NC h1 h2) (fun z => by omega)
  | succ d ih =>
    intro k hk NC h1 h2 f hf
    obtain ⟨f, rfl⟩ : ∃ m, f = m + 1 := ⟨f - 1, by omega⟩
    have e1 := xt_74 n k
    refine pk_le (tc_N c) k (fun z => by omega) (fun _ => ⟨vp_in_nI (by omega) (by decide), pk_in (74 * n + k) 1776 (by omega) e1, nm_r (e' := upd NC (74 * n + k) (nI (w k))) (by rw [e1, nI_clamp (by omega), nI_clamp (by omega), T k (by omega)]) (nm_r (nI_1 k) (ih (k + 1) (by omega) (upd NC (74 * n + k) (nI (w k))) (fun e he => ?_) (fun j hj => ?_) f (by omega)))⟩)
    · by_cases z : e = k
      · rw [z, pk_us]
      · rw [pk_un (by omega)]; exact h1 e (by omega)
    · rw [pk_un (by omega)]; exact h2 j hj
theorem xn_13 (W : tc_wf c) {post : SX → Prop} {n s bs B : Nat} {v w : Nat → Nat} (hn : n < 24) (hs : s < 20) (hv : ∀ e, e < tc_N c → a_stateCost (74 * s + e) = nI (v e)) (q1 : a_nodeState n = nI s) (q2 : a_nodeBase n = nI bs) (Q : tt_Q (tc_N c) bs B v w) (hB : B < 1000000)
    (K : ∀ NC : Nat → Int32, (∀ e, e < tc_N c → NC (74 * n + e) = nI (w e)) → (∀ j, (j < 74 * n ∨ 74 * n + 74 ≤ j) → NC j = a_nodeCost j) → post (f_drafted, f_patternHeight, nI (tc_nr c), f_nodes, f_treeHeight, f_isLaid, nI (tc_N c), f_stateCount, f_isWhole, f_tooMany, f_trialLeast, f_covered, f_works, f_fromStates, f_whereFirst, f_whereSecond, a_draft, a_patternBegin, a_left, a_ruleCost, a_ruleSize, a_rulePart, a_operator, a_firstPart, a_secondPart, a_stack, a_treeBegin, a_helperOperator, a_helperFirst, a_helperSecond, a_chainFrom, a_openParts, a_stateCost, a_leafState, a_leafAdd, a_oneState, a_oneAdd, a_twoState, a_twoAdd, a_trial, NC, a_nodeWays, a_cover, a_workEntry, a_workNode, a_nodeState, a_nodeBase)) :
    ∀ d k, k + d = tc_N c → ∀ NC : Nat → Int32, (∀ e, e < k → NC (74 * n + e) = nI (w e)) → (∀ j, (j < 74 * n ∨ 74 * n + 74 ≤ j) → NC j = a_nodeCost j) → ∀ f, d < f → wX_labelCosts_13 post (nI n) f_drafted f_patternHeight (nI (tc_nr c)) f_nodes f_treeHeight f_isLaid (nI (tc_N c)) f_stateCount f_isWhole f_tooMany f_trialLeast f_covered f_works f_fromStates f_whereFirst f_whereSecond f (nI k) a_draft a_patternBegin a_left a_ruleCost a_ruleSize a_rulePart a_operator a_firstPart a_secondPart a_stack a_treeBegin a_helperOperator a_helperFirst a_helperSecond a_chainFrom a_openParts a_stateCost a_leafState a_leafAdd a_oneState a_oneAdd a_twoState a_twoAdd a_trial NC a_nodeWays a_cover a_workEntry a_workNode a_nodeState a_nodeBase := by
  have hN := tc_N_le W
  have i1 : vp_in (nI n) 24 := vp_in_nI hn (by decide)
  have c1 : a_nodeState (nI n).toNatClampNeg = nI s := by rw [nI_clamp (by omega)]; exact q1
  have c2 : a_nodeBase (nI n).toNatClampNeg = nI bs := by rw [nI_clamp (by omega)]; exact q2
  intro d
  induction d with
  | zero =>
    intro k hk NC h1 h2 f hf
    obtain ⟨f, rfl⟩ : ∃ m, f = m + 1 := ⟨f - 1, by omega⟩
    have ek : k = tc_N c := by omega
    subst ek
    exact pk_le (tc_N c) (tc_N c) (fun _ => K NC h1 h2) (fun z => by omega)
  | succ d ih =>
    intro k hk NC h1 h2 f hf
    obtain ⟨f, rfl⟩ : ∃ m, f = m + 1 := ⟨f - 1, by omega⟩
    have e1 := xt_74 n k
    have i3 : vp_in (74 * nI n + nI k) 1776 := by rw [e1]; exact vp_in_nI (by omega) (by decide)
    have e2 : (74 : Int32) * a_nodeState (nI n).toNatClampNeg + nI k = nI (74 * s + k) := by rw [c1, xt_74]
    have e3 : a_stateCost (74 * a_nodeState (nI n).toNatClampNeg + nI k).toNatClampNeg = nI (v k) := by rw [e2, nI_clamp (by omega)]; exact hv k (by omega)
    have q := Q k (by omega)
    have nx : ∀ x : Int32, x = nI (w k) → wX_labelCosts_13 post (nI n) f_drafted f_patternHeight (nI (tc_nr c)) f_nodes f_treeHeight f_isLaid (nI (tc_N c)) f_stateCount f_isWhole f_tooMany f_trialLeast f_covered f_works f_fromStates f_whereFirst f_whereSecond f (nI (k + 1)) a_draft a_patternBegin a_left a_ruleCost a_ruleSize a_rulePart a_operator a_firstPart a_secondPart a_stack a_treeBegin a_helperOperator a_helperFirst a_helperSecond a_chainFrom a_openParts a_stateCost a_leafState a_leafAdd a_oneState a_oneAdd a_twoState a_twoAdd a_trial (upd NC (74 * n + k) x) a_nodeWays a_cover a_workEntry a_workNode a_nodeState a_nodeBase := by
      intro x ex
      refine ih (k + 1) (by omega) (upd NC (74 * n + k) x) (fun e he => ?_) (fun j hj => ?_) f (by omega)
      · by_cases z : e = k
        · rw [z, pk_us, ex]
        · rw [pk_un (by omega)]; exact h1 e (by omega)
      · rw [pk_un (by omega)]; exact h2 j hj
    have eu : ∀ x : Int32, upd NC ((74 : Int32) * nI n + nI k).toNatClampNeg x = upd NC (74 * n + k) x := fun x => by rw [e1, nI_clamp (by omega)]
    refine pk_le (tc_N c) k (fun z => by omega) (fun _ => ⟨i1, pk_in (74 * s + k) 1628 (by omega) e2, nm_r e3 (pk_lt (v k) 1000000 (fun z => ⟨i1, i3, nm_r (eu _) (nm_r (nI_1 k) (nx _ ?_))⟩) (fun z => ⟨i3, nm_r (eu _) (nm_r (nI_1 k) (nx _ ?_))⟩) rfl rfl (by rcases q with q | q <;> omega))⟩)
    · rw [c2, nI_add]
      rcases q with q | q
      · rw [q.2.1]
      · omega
    · rcases q with q | q
      · omega
      · rw [q.2]; rfl
theorem xn_prep0 {post : SX → Prop} {p1 p2 : Int32} (K : post (f_drafted, f_patternHeight, f_rules, f_nodes, f_treeHeight, f_isLaid, f_entries, f_stateCount, f_isWhole, f_tooMany, f_trialLeast, f_covered, f_works, 0, p1, p2, a_draft, a_patternBegin, a_left, a_ruleCost, a_ruleSize, a_rulePart, a_operator, a_firstPart, a_secondPart, a_stack, a_treeBegin, a_helperOperator, a_helperFirst, a_helperSecond, a_chainFrom, a_openParts, a_stateCost, a_leafState, a_leafAdd, a_oneState, a_oneAdd, a_twoState, a_twoAdd, a_trial, a_nodeCost, a_nodeWays, a_cover, a_workEntry, a_workNode, a_nodeState, a_nodeBase)) : wpX_prepare post (f_drafted, f_patternHeight, f_rules, f_nodes, f_treeHeight, f_isLaid, f_entries, f_stateCount, f_isWhole, f_tooMany, f_trialLeast, f_covered, f_works, f_fromStates, f_whereFirst, f_whereSecond, a_draft, a_patternBegin, a_left, a_ruleCost, a_ruleSize, a_rulePart, a_operator, a_firstPart, a_secondPart, a_stack, a_treeBegin, a_helperOperator, a_helperFirst, a_helperSecond, a_chainFrom, a_openParts, a_stateCost, a_leafState, a_leafAdd, a_oneState, a_oneAdd, a_twoState, a_twoAdd, a_trial, a_nodeCost, a_nodeWays, a_cover, a_workEntry, a_workNode, a_nodeState, a_nodeBase) 0 p1 p2 := ⟨rfl, rfl, K⟩
theorem xn_costs (W : tc_wf c) (R : xl_R c a_left a_ruleCost a_ruleSize a_rulePart) (A : xl_A c a_helperOperator a_helperFirst a_helperSecond a_chainFrom) (F : tt_F op sp tn) (Nd : xn_N op sp tn a_operator a_firstPart a_secondPart) {post : SX → Prop} {n b0 sc0 : Nat} {sv0 : Nat → Nat → Nat} (hn : n < tn) (hI : xn_I c op sp sc0 sv0 a_nodeState a_nodeBase n) (hC : ∀ m, b0 ≤ m → m < n → xn_C c op sp a_nodeCost m) (hb : 2 ≤ op n → b0 ≤ tt_x op sp n) (T : xb_T c sc0 sv0 f_tooMany a_stateCost a_leafState a_leafAdd a_oneState a_oneAdd a_twoState a_twoAdd)
    (K : ∀ (fs w1 w2 : Int32) (tr NC : Nat → Int32), xn_C c op sp NC n → (∀ j, (j < 74 * n ∨ 74 * n + 74 ≤ j) → NC j = a_nodeCost j) → post (f_drafted, f_patternHeight, nI (tc_nr c), f_nodes, f_treeHeight, f_isLaid, nI (tc_N c), nI sc0, f_isWhole, f_tooMany, f_trialLeast, f_covered, f_works, fs, w1, w2, a_draft, a_patternBegin, a_left, a_ruleCost, a_ruleSize, a_rulePart, a_operator, a_firstPart, a_secondPart, a_stack, a_treeBegin, a_helperOperator, a_helperFirst, a_helperSecond, a_chainFrom, a_openParts, a_stateCost, a_leafState, a_leafAdd, a_oneState, a_oneAdd, a_twoState, a_twoAdd, tr, NC, a_nodeWays, a_cover, a_workEntry, a_workNode, a_nodeState, a_nodeBase)) :
    wpX_labelCosts post (f_drafted, f_patternHeight, nI (tc_nr c), f_nodes, f_treeHeight, f_isLaid, nI (tc_N c), nI sc0, f_isWhole, f_tooMany, f_trialLeast, f_covered, f_works, f_fromStates, f_whereFirst, f_whereSecond, a_draft, a_patternBegin, a_left, a_ruleCost, a_ruleSize, a_rulePart, a_operator, a_firstPart, a_secondPart, a_stack, a_treeBegin, a_helperOperator, a_helperFirst, a_helperSecond, a_chainFrom, a_openParts, a_stateCost, a_leafState, a_leafAdd, a_oneState, a_oneAdd, a_twoState, a_twoAdd, a_trial, a_nodeCost, a_nodeWays, a_cover, a_workEntry, a_workNode, a_nodeState, a_nodeBase) (nI n) := by
  have h24 := F.1
  obtain ⟨n1, n2, n3⟩ := Nd n hn
  obtain ⟨l1, l2, l3, l4, l5, l6, l7, l8⟩ := tt_loc F hn
  have hN := tc_N_le W
  have i1 : vp_in (nI n) 24 := vp_in_nI (by omega) (by decide)
  have c0 : a_nodeState (nI n).toNatClampNeg = a_nodeState n := by rw [nI_clamp (by omega)]
  have c1 : a_operator (nI n).toNatClampNeg = nI (op n) := by rw [nI_clamp (by omega)]; exact n1
  rcases hI with h | ⟨s, bs, q1, q2, q3, q4, q5⟩
  · refine ⟨i1, br_t ?_ ⟨i1, i1, xn_prep0 ⟨i1, ?_⟩⟩⟩
    · rw [c0, h]; decide
    · rw [c1]
      refine xt_try W R A (wa := tt_a c op sp n) (wb := tt_b c op sp n) l1 ?_ ?_ (fun h2 => ?_) (fun h4 => ?_) (fun tr Tr => ⟨tc_N c + 1, ?_⟩)
      · intro e
        unfold tt_a
        split
        · exact Nat.zero_le _
        · exact tt_A_le F (by have := tt_x_lt F hn (by omega); omega) e
      · intro e
        unfold tt_b
        split
        · exact Nat.zero_le _
        · exact tt_A_le F (by omega) e
      · have hx := tt_x_lt F hn h2
        refine ⟨tt_x op sp n, ?_, Or.inl ⟨rfl, by omega, fun e he => ?_⟩⟩
        · rw [nI_clamp (by omega), n2, if_neg (by omega)]
        · unfold tt_a
          rw [if_neg (by omega)]
          exact hC _ (hb h2) hx e he
      · have hx := tt_x_lt F hn (by omega)
        have hb2 := hb (by omega)
        have hn1 := l4 (by omega)
        refine ⟨n - 1, ?_, Or.inl ⟨rfl, by omega, fun e he => ?_⟩⟩
        · rw [nI_clamp (by omega), n3, if_neg (by omega)]
        · unfold tt_b
          rw [if_neg (by omega)]
          exact hC _ (by omega) (by omega) e he
      · refine xn_104 W (n := n) (by omega) Tr (fun NC k1 k2 => K 0 _ _ tr NC (fun e he => ?_) k2) (tc_N c) 0 (by omega) a_nodeCost (fun e he => absurd he (Nat.not_lt_zero _)) (fun j _ => rfl) (tc_N c + 1) (by omega)
        rw [k1 e he, tt_A_st W F hn e he]
  · have s20 : sc0 ≤ 20 := T.1.1
    refine ⟨i1, br_f ?_ ⟨tc_N c + 1, ?_⟩⟩
    · rw [c0, q2]
      exact nI_ge (a := s) (b := 20) (by omega) (by decide)
    · exact xn_13 W (n := n) (by omega) (by omega) (T.1.2.2.2.1 s q1) q2 q3 q5 (by omega) (fun NC k1 k2 => K _ _ _ _ NC k1 k2) (tc_N c) 0 (by omega) a_nodeCost (fun e he => absurd he (Nat.not_lt_zero _)) (fun j _ => rfl) (tc_N c + 1) (by omega)
theorem xn_17 (W : tc_wf c) (R : xl_R c a_left a_ruleCost a_ruleSize a_rulePart) (A : xl_A c a_helperOperator a_helperFirst a_helperSecond a_chainFrom) (F : tt_F op sp tn) (Nd : xn_N op sp tn a_operator a_firstPart a_secondPart) {post : Int32 → SX → Prop} {b0 top pl sc0 : Nat} {sv0 : Nat → Nat → Nat} {tm0 : Int32} (hpl : pl < 8) (ht : top < tn) (es : a_stack pl = nI top) (hb : ∀ n, b0 ≤ n → n ≤ top → 2 ≤ op n → b0 ≤ tt_x op sp n)
    (K : ∀ (sc : Nat) (sv : Nat → Nat → Nat) (tm tl fs w1 w2 : Int32) (SC LS LA OS OA TS TA tr : Nat → Int32) (NC NS NB : Nat → Int32), xb_T c sc sv tm SC LS LA OS OA TS TA → xb_X sc0 sv0 tm0 sc sv tm → (∀ m, b0 ≤ m → m ≤ top → xn_C c op sp NC m) → (∀ j, (j < 74 * b0 ∨ 74 * top + 74 ≤ j) → NC j = a_nodeCost j) → post 1 (f_drafted, f_patternHeight, nI (tc_nr c), f_nodes, f_treeHeight, f_isLaid, nI (tc_N c), nI sc, f_isWhole, tm, tl, f_covered, f_works, fs, w1, w2, a_draft, a_patternBegin, a_left, a_ruleCost, a_ruleSize, a_rulePart, a_operator, a_firstPart, a_secondPart, a_stack, a_treeBegin, a_helperOperator, a_helperFirst, a_helperSecond, a_chainFrom, a_openParts, SC, LS, LA, OS, OA, TS, TA, tr, NC, a_nodeWays, a_cover, a_workEntry, a_workNode, NS, NB)) :
    ∀ d n, n + d = top + 1 → b0 ≤ n → ∀ (sc : Nat) (sv : Nat → Nat → Nat) (tm tl fs w1 w2 : Int32) (SC LS LA OS OA TS TA tr : Nat → Int32) (NC NS NB : Nat → Int32), xb_T c sc sv tm SC LS LA OS OA TS TA → xb_X sc0 sv0 tm0 sc sv tm → (∀ m, b0 ≤ m → m < n → xn_I c op sp sc sv NS NB m ∧ xn_C c op sp NC m) → (∀ j, (j < 74 * b0 ∨ 74 * top + 74 ≤ j) → NC j = a_nodeCost j) →
      ∀ f, d < f → wX_labelTree_17 post (nI pl) f (nI n) f_drafted f_patternHeight (nI (tc_nr c)) f_nodes f_treeHeight f_isLaid (nI (tc_N c)) (nI sc) f_isWhole tm tl f_covered f_works fs w1 w2 a_draft a_patternBegin a_left a_ruleCost a_ruleSize a_rulePart a_operator a_firstPart a_secondPart a_stack a_treeBegin a_helperOperator a_helperFirst a_helperSecond a_chainFrom a_openParts SC LS LA OS OA TS TA tr NC a_nodeWays a_cover a_workEntry a_workNode NS NB := by
  have h24 := F.1
  have i1 : vp_in (nI pl) 8 := vp_in_nI hpl (by decide)
  have c1 : a_stack (nI pl).toNatClampNeg = nI top := by rw [nI_clamp (by omega)]; exact es
  intro d
  induction d with
  | zero =>
    intro n hn hbn sc sv tm tl fs w1 w2 SC LS LA OS OA TS TA tr NC NS NB T X H1 H2 f hf
    obtain ⟨f, rfl⟩ : ∃ m, f = m + 1 := ⟨f - 1, by omega⟩
    exact ⟨i1, pk_lt top n (fun _ => K sc sv tm tl fs w1 w2 SC LS LA OS OA TS TA tr NC NS NB T X (fun m h1 h2 => (H1 m h1 (by omega)).2) H2) (fun z => by omega) c1⟩
  | succ d ih =>
    intro n hn hbn sc sv tm tl fs w1 w2 SC LS LA OS OA TS TA tr NC NS NB T X H1 H2 f hf
    obtain ⟨f, rfl⟩ : ∃ m, f = m + 1 := ⟨f - 1, by omega⟩
    refine ⟨i1, pk_lt top n (fun z => by omega) (fun _ => ?_) c1⟩
    have hbx := hb n hbn (by omega)
    refine xn_byT W R A F Nd (n := n) (b0 := b0) (by omega) (fun m h1 h2 => (H1 m h1 h2).1) hbx T (fun sc1 sv1 tm1 tl1 fs1 w11 w21 SC1 LS1 LA1 OS1 OA1 TS1 TA1 tr1 NS1 NB1 T1 X1 N1 I1 => ?_)
    refine xn_costs W R A F Nd (n := n) (b0 := b0) (by omega) I1 (fun m h1 h2 => (H1 m h1 h2).2) hbx T1 (fun fs2 w12 w22 tr2 NC2 k1 k2 => nm_r (nI_1 n) ?_)
    refine ih (n + 1) (by omega) (by omega) sc1 sv1 tm1 tl1 fs2 w12 w22 SC1 LS1 LA1 OS1 OA1 TS1 TA1 tr2 NC2 NS1 NB1 T1 (xb_X_tr X X1) (fun m h1 h2 => ?_) (fun j hj => ?_) f (by omega)
    · by_cases z : m = n
      · rw [z]; exact ⟨I1, k1⟩
      · obtain ⟨m1, m2⟩ := H1 m h1 (by omega)
        refine ⟨xn_I_x X1 m1 (N1 m z).1 (N1 m z).2, fun e he => ?_⟩
        have hN := tc_N_le W
        rw [k2 _ (by omega)]
        exact m2 e he
    · rw [k2 j (by omega)]
      exact H2 j hj
theorem tn_K_x {sc sc' : Nat} {sv sv' : Nat → Nat → Nat} {tm tm' : Int32} (k : tn_K c sc sv) (X : xb_X sc sv tm sc' sv' tm') (hR : ∀ s, s < sc' → tn_R c (sv' s)) : tn_K c sc' sv' := by
  have up : ∀ w, (∃ s, s < sc ∧ sv s = w) → ∃ s, s < sc' ∧ sv' s = w := fun w ⟨s, h1, h2⟩ => ⟨s, Nat.lt_of_lt_of_le h1 X.1, (X.2.1 s h1).trans h2⟩
  have dn : ∀ w, (∃ s, s < sc' ∧ sv' s = w) → ∃ s, s < sc ∧ sv s = w := fun w ⟨s, h1, h2⟩ => tn_K_all k (h2 ▸ hR s h1)
  exact ⟨fun o ho => up _ (k.1 o ho), fun o h1 h2 a ha => up _ (k.2.1 o h1 h2 a (dn a ha)), fun o h1 h2 a b ha hb => up _ (k.2.2 o h1 h2 a b (dn a ha) (dn b hb))⟩
theorem xz_W_x {sc sc' : Nat} {sv sv' : Nat → Nat → Nat} {tm tm' fw : Int32} (h : xz_W c sc sv tm fw) (X : xb_X sc sv tm sc' sv' tm') (hR : ∀ s, s < sc' → tn_R c (sv' s)) : xz_W c sc' sv' tm' fw := by
  rcases h with h | ⟨h, h' | h'⟩
  · exact Or.inl h
  · exact Or.inr ⟨h, Or.inl (X.2.2 h')⟩
  · exact Or.inr ⟨h, Or.inr (tn_K_x h' X hR)⟩
theorem xn_tree (W : tc_wf c) (R : xl_R c a_left a_ruleCost a_ruleSize a_rulePart) (H : xz_H c f_isLaid f_entries f_stateCount f_isWhole f_tooMany a_helperOperator a_helperFirst a_helperSecond a_chainFrom a_stateCost a_leafState a_leafAdd a_oneState a_oneAdd a_twoState a_twoAdd) (F : tt_F op sp tn) (Nd : xn_N op sp tn a_operator a_firstPart a_secondPart) {post : Int32 → SX → Prop} {b0 top pl : Nat} (hpl : pl < 8) (ht : top < tn) (hbt : b0 ≤ top) (es : a_stack pl = nI top) (eb : a_treeBegin pl = nI b0) (hb : ∀ n, b0 ≤ n → n ≤ top → 2 ≤ op n → b0 ≤ tt_x op sp n)
    (K : ∀ (sc : Nat) (sv : Nat → Nat → Nat) (fw tm tl fs w1 w2 : Int32) (ho hf hs ch oq SC LS LA OS OA TS TA tr NC NS NB : Nat → Int32), xl_A c ho hf hs ch → xb_T c sc sv tm SC LS LA OS OA TS TA → xz_W c sc sv tm fw → ((f_isLaid = 0 ∧ fw = 0) ∨ (f_isLaid = 1 ∧ fw = f_isWhole)) → (∀ m, b0 ≤ m → m ≤ top → xn_C c op sp NC m) → (∀ j, (j < 74 * b0 ∨ 74 * top + 74 ≤ j) → NC j = a_nodeCost j) → post 1 (f_drafted, f_patternHeight, nI (tc_nr c), f_nodes, f_treeHeight, 1, nI (tc_N c), nI sc, fw, tm, tl, f_covered, f_works, fs, w1, w2, a_draft, a_patternBegin, a_left, a_ruleCost, a_ruleSize, a_rulePart, a_operator, a_firstPart, a_secondPart, a_stack, a_treeBegin, ho, hf, hs, ch, oq, SC, LS, LA, OS, OA, TS, TA, tr, NC, a_nodeWays, a_cover, a_workEntry, a_workNode, NS, NB)) :
    wpX_labelTree post (f_drafted, f_patternHeight, nI (tc_nr c), f_nodes, f_treeHeight, f_isLaid, f_entries, f_stateCount, f_isWhole, f_tooMany, f_trialLeast, f_covered, f_works, f_fromStates, f_whereFirst, f_whereSecond, a_draft, a_patternBegin, a_left, a_ruleCost, a_ruleSize, a_rulePart, a_operator, a_firstPart, a_secondPart, a_stack, a_treeBegin, a_helperOperator, a_helperFirst, a_helperSecond, a_chainFrom, a_openParts, a_stateCost, a_leafState, a_leafAdd, a_oneState, a_oneAdd, a_twoState, a_twoAdd, a_trial, a_nodeCost, a_nodeWays, a_cover, a_workEntry, a_workNode, a_nodeState, a_nodeBase) (nI pl) := by
  have h24 := F.1
  refine br_t (nI_pos' (by omega)) (xz_lay W R H (fun sc sv fw tm ho hf hs ch oq LS OS TS A T Wh Fw => ⟨vp_in_nI hpl (by decide), nm_r (e' := nI b0) (by rw [nI_clamp (by omega)]; exact eb) ⟨top + 2, ?_⟩⟩))
  refine xn_17 W R A F Nd (b0 := b0) hpl ht es hb (fun sc1 sv1 tm1 tl1 fs1 w11 w21 SC1 LS1 LA1 OS1 OA1 TS1 TA1 tr1 NC NS NB T1 X1 H1 H2 => ?_) (top + 1 - b0) b0 (by omega) (Nat.le_refl _) sc sv tm _ _ _ _ _ _ _ _ _ _ _ _ _ _ _ T xb_X_rf (fun m h1 h2 => by omega) (fun j _ => rfl) (top + 2) (by omega)
  exact K sc1 sv1 fw tm1 tl1 fs1 w11 w21 ho hf hs ch oq SC1 LS1 LA1 OS1 OA1 TS1 TA1 tr1 NC NS NB A T1 (xz_W_x Wh X1 T1.1.2.2.1) Fw H1 H2
end
end
section
/-! Y: workTrees, topCost -/
section
variable {g_noted g_depth g_rules g_planted g_trees g_stateCount g_known g_listed : Int32} {b_marks b_sizes b_lefts b_costs b_lengths b_operators b_spans b_least b_ways b_tasks b_list : Nat → Int32} {c : tc_C} {op sp : Nat → Nat} {tn : Nat}
def yt_N (op sp : Nat → Nat) (tn : Nat) (operators spans : Nat → Int32) : Prop := ∀ n, n < tn → operators n = nI (op n) ∧ spans n = nI (sp n)
theorem yt_2 (W : tc_wf c) (U : yw_U c b_marks b_sizes b_lefts b_costs b_lengths) (F : tt_F op sp tn) (Nd : yt_N op sp tn b_operators b_spans) {post : Int32 → SY → Prop} {th : Nat} (hth : th ≤ 8)
    (K0 : th = 0 → ∀ L : Nat → Int32, (∀ m, m < tn → yw_R c L m (tt_A c op sp m)) → (∀ j, 74 * 24 ≤ j → L j = b_least j) → post 0 (g_noted, g_depth, nI (tc_nr c), nI tn, nI th, g_stateCount, g_known, g_listed, b_marks, b_sizes, b_lefts, b_costs, b_lengths, b_operators, b_spans, L, b_ways, b_tasks, b_list))
    (K1 : 0 < th → ∀ L : Nat → Int32, (∀ m, m < tn → yw_R c L m (tt_A c op sp m)) → (∀ j, 74 * 24 ≤ j → L j = b_least j) → post 1 (g_noted, g_depth, nI (tc_nr c), nI tn, nI th, g_stateCount, g_known, g_listed, b_marks, b_sizes, b_lefts, b_costs, b_lengths, b_operators, b_spans, L, b_ways, b_tasks, b_list)) :
    ∀ d n, n + d = tn → ∀ L : Nat → Int32, (∀ m, m < n → yw_R c L m (tt_A c op sp m)) → (∀ j, 74 * 24 ≤ j → L j = b_least j) → ∀ f, d < f → wY_workTrees_2 post f (nI n) g_noted g_depth (nI (tc_nr c)) (nI tn) (nI th) g_stateCount g_known g_listed b_marks b_sizes b_lefts b_costs b_lengths b_operators b_spans L b_ways b_tasks b_list := by
  have h24 := F.1
  intro d
  induction d with
  | zero =>
    intro n hn L R Fr f hf
    obtain ⟨f, rfl⟩ : ∃ m, f = m + 1 := ⟨f - 1, by omega⟩
    have en : n = tn := by omega
    subst en
    exact pk_le n n (fun _ => pk_le th 0 (fun z => K0 (by omega) L R Fr) (fun z => K1 z L R Fr)) (fun z => by omega)
  | succ d ih =>
    intro n hn L R Fr f hf
    obtain ⟨f, rfl⟩ : ∃ m, f = m + 1 := ⟨f - 1, by omega⟩
    have hlt : n < tn := by omega
    obtain ⟨n1, n2⟩ := Nd n hlt
    obtain ⟨l1, l2, l3, l4, l5, l6, l7, l8⟩ := tt_loc F hlt
    have key : ∀ x y : Nat, (2 ≤ op n → x = tt_x op sp n) → (4 ≤ op n → y = n - 1) → wY_workTrees_47 post (wY_workTrees_2 post f) (nI n) (nI (op n)) (nI y) (nI x) g_noted g_depth (nI (tc_nr c)) (nI tn) (nI th) g_stateCount g_known g_listed b_marks b_sizes b_lefts b_costs b_lengths b_operators b_spans L b_ways b_tasks b_list := by
      intro x y hx hy
      refine yw_out W U (n := n) (x := x) (y := y) (wa := tt_a c op sp n) (wb := tt_b c op sp n) (by omega) l1 (fun e => ?_) (fun e => ?_) ⟨fun h => ?_, fun h => ?_⟩ (fun L' R' F' => nm_r (nI_1 n) ?_)
      · unfold tt_a
        split
        · exact Nat.zero_le _
        · exact tt_A_le F (by have := tt_x_lt F hlt (by omega); omega) e
      · unfold tt_b
        split
        · exact Nat.zero_le _
        · exact tt_A_le F (by omega) e
      · have := tt_x_lt F hlt h
        rw [hx h, show tt_a c op sp n = tt_A c op sp (tt_x op sp n) from if_neg (by omega)]
        exact ⟨by omega, by omega, R _ this⟩
      · have := l4 (by omega)
        rw [hy h, show tt_b c op sp n = tt_A c op sp (n - 1) from if_neg (by omega)]
        exact ⟨by omega, by omega, R _ (by omega)⟩
      · refine ih (n + 1) (by omega) L' (fun m hm => ?_) (fun j hj => (F' j (by omega)).trans (Fr j hj)) f (by omega)
        by_cases z : m = n
        · rw [z, tt_A_eq F hlt]; exact R'
        · exact yw_R_fr W (R m (by omega)) (fun j h1 h2 => F' j (by omega))
    have c1 : b_operators (nI n).toNatClampNeg = nI (op n) := by rw [nI_clamp (by omega)]; exact n1
    refine pk_le tn n (fun z => by omega) (fun _ => ⟨vp_in_nI (by omega) (by decide), nm_r c1 (pk_le 2 (op n) (fun h2 => ?_) (fun h2 => ?_))⟩)
    · have e1 : nI n - 1 = nI (n - 1) := pk_sub (a := n) (b := 1) (l4 h2)
      rw [e1]
      refine pk_le 4 (op n) (fun h4 => ⟨vp_in_nI (by omega) (by decide), ?_⟩) (fun h4 => ?_)
      · have := l5 h4
        have e2 : nI (n - 1) - b_spans (nI (n - 1)).toNatClampNeg = nI (n - 1 - sp (n - 1)) := by rw [nI_clamp (by omega), (Nd (n - 1) (by omega)).2, pk_sub (by omega)]
        rw [e2]
        exact key _ _ (fun _ => (if_neg (by omega)).symm) (fun _ => rfl)
      · exact key _ _ (fun _ => (if_pos h4).symm) (fun z => by omega)
    · exact pk_le 4 (op n) (fun h4 => by omega) (fun h4 => key n n (fun z => by omega) (fun z => by omega))
theorem yt_work (W : tc_wf c) (U : yw_U c b_marks b_sizes b_lefts b_costs b_lengths) (F : tt_F op sp tn) (Nd : yt_N op sp tn b_operators b_spans) {post : Int32 → SY → Prop} {th : Nat} (hth : th ≤ 8)
    (K0 : th = 0 → ∀ L : Nat → Int32, (∀ m, m < tn → yw_R c L m (tt_A c op sp m)) → (∀ j, 74 * 24 ≤ j → L j = b_least j) → post 0 (g_noted, g_depth, nI (tc_nr c), nI tn, nI th, g_stateCount, g_known, g_listed, b_marks, b_sizes, b_lefts, b_costs, b_lengths, b_operators, b_spans, L, b_ways, b_tasks, b_list))
    (K1 : 0 < th → ∀ L : Nat → Int32, (∀ m, m < tn → yw_R c L m (tt_A c op sp m)) → (∀ j, 74 * 24 ≤ j → L j = b_least j) → post 1 (g_noted, g_depth, nI (tc_nr c), nI tn, nI th, g_stateCount, g_known, g_listed, b_marks, b_sizes, b_lefts, b_costs, b_lengths, b_operators, b_spans, L, b_ways, b_tasks, b_list)) :
    wpY_workTrees post (g_noted, g_depth, nI (tc_nr c), nI tn, nI th, g_stateCount, g_known, g_listed, b_marks, b_sizes, b_lefts, b_costs, b_lengths, b_operators, b_spans, b_least, b_ways, b_tasks, b_list) :=
  ⟨tn + 1, yt_2 W U F Nd hth K0 K1 tn 0 (by omega) b_least (fun m hm => absurd hm (Nat.not_lt_zero _)) (fun j _ => rfl) (tn + 1) (by omega)⟩
theorem yt_top (W : tc_wf c) (U : yw_U c b_marks b_sizes b_lefts b_costs b_lengths) (F : tt_F op sp tn) (Nd : yt_N op sp tn b_operators b_spans) {post : Int32 → SY → Prop} {th g : Nat} (hth : th ≤ 8) (hg : g < 4) (ht1 : 0 < th → 1 ≤ tn)
    (K0 : th = 0 → ∀ L : Nat → Int32, (∀ m, m < tn → yw_R c L m (tt_A c op sp m)) → (∀ j, 74 * 24 ≤ j → L j = b_least j) → post 1000000 (g_noted, g_depth, nI (tc_nr c), nI tn, nI th, g_stateCount, g_known, g_listed, b_marks, b_sizes, b_lefts, b_costs, b_lengths, b_operators, b_spans, L, b_ways, b_tasks, b_list))
    (K1 : 0 < th → ∀ L : Nat → Int32, (∀ m, m < tn → yw_R c L m (tt_A c op sp m)) → (∀ j, 74 * 24 ≤ j → L j = b_least j) → post (nI (tt_A c op sp (tn - 1) g)) (g_noted, g_depth, nI (tc_nr c), nI tn, nI th, g_stateCount, g_known, g_listed, b_marks, b_sizes, b_lefts, b_costs, b_lengths, b_operators, b_spans, L, b_ways, b_tasks, b_list)) :
    wpY_topCost post (g_noted, g_depth, nI (tc_nr c), nI tn, nI th, g_stateCount, g_known, g_listed, b_marks, b_sizes, b_lefts, b_costs, b_lengths, b_operators, b_spans, b_least, b_ways, b_tasks, b_list) (nI g) := by
  have h24 := F.1
  refine yt_work W U F Nd hth (fun h L R Fr => br_t rfl (K0 h L R Fr)) (fun h L R Fr => br_f (by decide) ?_)
  have e1 : (74 : Int32) * (nI tn - 1) + nI g = nI (74 * (tn - 1) + g) := by rw [show nI tn - 1 = nI (tn - 1) from pk_sub (a := tn) (b := 1) (ht1 h), xt_74]
  refine ⟨pk_in (74 * (tn - 1) + g) 3404 (by omega) e1, ?_⟩
  rw [e1, nI_clamp (by omega), (R (tn - 1) (by have := ht1 h; omega)).1 g hg]
  exact K1 h L R Fr
end
end
section
/-! the relation -/
def rl_D (drafted patternHeight noted depth : Int32) (draft marks sizes : Nat → Int32) : Prop := ∃ dn dm ds, drafted = nI dn ∧ patternHeight = nI (tc_ht dm dn) ∧ noted = nI dn ∧ depth = nI (tc_ht dm dn) ∧ dn ≤ 7 ∧ tc_ht dm dn ≤ 6 ∧ tc_pt dm ds dn ∧
  ∀ k, k < dn → draft k = tc_cd (dm k) ∧ marks (70 + k) = nI (dm k) ∧ sizes (70 + k) = nI (ds k)
def rl_C (c : tc_C) (xrules yrules : Int32) (left ruleCost ruleSize rulePart marks sizes lefts costs lengths : Nat → Int32) : Prop :=
  xrules = nI (tc_nr c) ∧ yrules = nI (tc_nr c) ∧ tc_wf c ∧ xl_R c left ruleCost ruleSize rulePart ∧ yw_U c marks sizes lefts costs lengths
def rl_T (op sp rt : Nat → Nat) (tn : Nat) (nodes treeHeight planted trees : Int32) (operator firstPart secondPart stack treeBegin operators spans : Nat → Int32) : Prop :=
  nodes = nI tn ∧ treeHeight = nI (tc_ht op tn) ∧ planted = nI tn ∧ trees = nI (tc_ht op tn) ∧ tt_F op sp tn ∧ tc_ht op tn ≤ 8 ∧ tc_fo sp tn (tc_ht op tn) rt ∧ xn_N op sp tn operator firstPart secondPart ∧ yt_N op sp tn operators spans ∧
  ∀ j, j < tc_ht op tn → stack j = nI (rt j) ∧ treeBegin j = nI (tc_bg rt j)
def rl_K (c : tc_C) (known stateCount : Int32) (least : Nat → Int32) : Prop := known = 0 ∨ (known = 1 ∧ ∃ sy yv, stateCount = nI sy ∧ yb_B c sy yv least ∧ (sy = 21 ∨ tn_K c sy yv))
def rl_W (isLaid isWhole known : Int32) : Prop := (known = 1 ∧ isLaid = 1 ∧ isWhole = 1) ∨ (known = 0 ∧ (isLaid = 0 ∨ isWhole = 0))
def i_Rel (k : Nat) (u : SX) (v : SY) : Prop := match u with
  | (f_drafted, f_patternHeight, f_rules, f_nodes, f_treeHeight, f_isLaid, f_entries, f_stateCount, f_isWhole, f_tooMany, f_trialLeast, f_covered, f_works, f_fromStates, f_whereFirst, f_whereSecond, a_draft, a_patternBegin, a_left, a_ruleCost, a_ruleSize, a_rulePart, a_operator, a_firstPart, a_secondPart, a_stack, a_treeBegin, a_helperOperator, a_helperFirst, a_helperSecond, a_chainFrom, a_openParts, a_stateCost, a_leafState, a_leafAdd, a_oneState, a_oneAdd, a_twoState, a_twoAdd, a_trial, a_nodeCost, a_nodeWays, a_cover, a_workEntry, a_workNode, a_nodeState, a_nodeBase) => match v with
    | (g_noted, g_depth, g_rules, g_planted, g_trees, g_stateCount, g_known, g_listed, b_marks, b_sizes, b_lefts, b_costs, b_lengths, b_operators, b_spans, b_least, b_ways, b_tasks, b_list) => rl_D f_drafted f_patternHeight g_noted g_depth a_draft b_marks b_sizes ∧ ∃ (c : tc_C) (op sp rt : Nat → Nat) (tn : Nat), rl_C c f_rules g_rules a_left a_ruleCost a_ruleSize a_rulePart b_marks b_sizes b_lefts b_costs b_lengths ∧ rl_T op sp rt tn f_nodes f_treeHeight g_planted g_trees a_operator a_firstPart a_secondPart a_stack a_treeBegin b_operators b_spans ∧ xz_H c f_isLaid f_entries f_stateCount f_isWhole f_tooMany a_helperOperator a_helperFirst a_helperSecond a_chainFrom a_stateCost a_leafState a_leafAdd a_oneState a_oneAdd a_twoState a_twoAdd ∧ rl_K c g_known g_stateCount b_least ∧ rl_W f_isLaid f_isWhole g_known
theorem i_up {k : Nat} {u : SX} {v : SY} (h : i_Rel k u v) : i_Rel (k + 3) u v := h
section
variable {f_drafted f_patternHeight f_rules f_nodes f_treeHeight f_isLaid f_entries f_stateCount f_isWhole f_tooMany f_trialLeast f_covered f_works f_fromStates f_whereFirst f_whereSecond : Int32} {a_draft a_patternBegin a_left a_ruleCost a_ruleSize a_rulePart a_operator a_firstPart a_secondPart a_stack a_treeBegin a_helperOperator a_helperFirst a_helperSecond a_chainFrom a_openParts a_stateCost a_leafState a_leafAdd a_oneState a_oneAdd a_twoState a_twoAdd a_trial a_nodeCost a_nodeWays a_cover a_workEntry a_workNode a_nodeState a_nodeBase : Nat → Int32} {g_noted g_depth g_rules g_planted g_trees g_stateCount g_known g_listed : Int32} {b_marks b_sizes b_lefts b_costs b_lengths b_operators b_spans b_least b_ways b_tasks b_list : Nat → Int32}
theorem rl_in {k : Nat} {c : tc_C} {op sp rt : Nat → Nat} {tn : Nat} (D : rl_D f_drafted f_patternHeight g_noted g_depth a_draft b_marks b_sizes) (C : rl_C c f_rules g_rules a_left a_ruleCost a_ruleSize a_rulePart b_marks b_sizes b_lefts b_costs b_lengths) (T : rl_T op sp rt tn f_nodes f_treeHeight g_planted g_trees a_operator a_firstPart a_secondPart a_stack a_treeBegin b_operators b_spans) (H : xz_H c f_isLaid f_entries f_stateCount f_isWhole f_tooMany a_helperOperator a_helperFirst a_helperSecond a_chainFrom a_stateCost a_leafState a_leafAdd a_oneState a_oneAdd a_twoState a_twoAdd) (K : rl_K c g_known g_stateCount b_least) (V : rl_W f_isLaid f_isWhole g_known) : i_Rel k (f_drafted, f_patternHeight, f_rules, f_nodes, f_treeHeight, f_isLaid, f_entries, f_stateCount, f_isWhole, f_tooMany, f_trialLeast, f_covered, f_works, f_fromStates, f_whereFirst, f_whereSecond, a_draft, a_patternBegin, a_left, a_ruleCost, a_ruleSize, a_rulePart, a_operator, a_firstPart, a_secondPart, a_stack, a_treeBegin, a_helperOperator, a_helperFirst, a_helperSecond, a_chainFrom, a_openParts, a_stateCost, a_leafState, a_leafAdd, a_oneState, a_oneAdd, a_twoState, a_twoAdd, a_trial, a_nodeCost, a_nodeWays, a_cover, a_workEntry, a_workNode, a_nodeState, a_nodeBase) (g_noted, g_depth, g_rules, g_planted, g_trees, g_stateCount, g_known, g_listed, b_marks, b_sizes, b_lefts, b_costs, b_lengths, b_operators, b_spans, b_least, b_ways, b_tasks, b_list) := ⟨D, c, op, sp, rt, tn, C, T, H, K, V⟩
end
theorem rl_el {k : Nat} {u : SX} {v : SY} {P : SX → SY → Prop} (I : i_Rel k u v)
    (h : ∀ (f_drafted f_patternHeight f_rules f_nodes f_treeHeight f_isLaid f_entries f_stateCount f_isWhole f_tooMany f_trialLeast f_covered f_works f_fromStates f_whereFirst f_whereSecond : Int32) (a_draft a_patternBegin a_left a_ruleCost a_ruleSize a_rulePart a_operator a_firstPart a_secondPart a_stack a_treeBegin a_helperOperator a_helperFirst a_helperSecond a_chainFrom a_openParts a_stateCost a_leafState a_leafAdd a_oneState a_oneAdd a_twoState a_twoAdd a_trial a_nodeCost a_nodeWays a_cover a_workEntry a_workNode a_nodeState a_nodeBase : Nat → Int32) (g_noted g_depth g_rules g_planted g_trees g_stateCount g_known g_listed : Int32) (b_marks b_sizes b_lefts b_costs b_lengths b_operators b_spans b_least b_ways b_tasks b_list : Nat → Int32) (c : tc_C) (op sp rt : Nat → Nat) (tn : Nat), rl_D f_drafted f_patternHeight g_noted g_depth a_draft b_marks b_sizes → rl_C c f_rules g_rules a_left a_ruleCost a_ruleSize a_rulePart b_marks b_sizes b_lefts b_costs b_lengths → rl_T op sp rt tn f_nodes f_treeHeight g_planted g_trees a_operator a_firstPart a_secondPart a_stack a_treeBegin b_operators b_spans → xz_H c f_isLaid f_entries f_stateCount f_isWhole f_tooMany a_helperOperator a_helperFirst a_helperSecond a_chainFrom a_stateCost a_leafState a_leafAdd a_oneState a_oneAdd a_twoState a_twoAdd → rl_K c g_known g_stateCount b_least → rl_W f_isLaid f_isWhole g_known → P (f_drafted, f_patternHeight, f_rules, f_nodes, f_treeHeight, f_isLaid, f_entries, f_stateCount, f_isWhole, f_tooMany, f_trialLeast, f_covered, f_works, f_fromStates, f_whereFirst, f_whereSecond, a_draft, a_patternBegin, a_left, a_ruleCost, a_ruleSize, a_rulePart, a_operator, a_firstPart, a_secondPart, a_stack, a_treeBegin, a_helperOperator, a_helperFirst, a_helperSecond, a_chainFrom, a_openParts, a_stateCost, a_leafState, a_leafAdd, a_oneState, a_oneAdd, a_twoState, a_twoAdd, a_trial, a_nodeCost, a_nodeWays, a_cover, a_workEntry, a_workNode, a_nodeState, a_nodeBase) (g_noted, g_depth, g_rules, g_planted, g_trees, g_stateCount, g_known, g_listed, b_marks, b_sizes, b_lefts, b_costs, b_lengths, b_operators, b_spans, b_least, b_ways, b_tasks, b_list)) : P u v := by
  obtain ⟨f_drafted, f_patternHeight, f_rules, f_nodes, f_treeHeight, f_isLaid, f_entries, f_stateCount, f_isWhole, f_tooMany, f_trialLeast, f_covered, f_works, f_fromStates, f_whereFirst, f_whereSecond, a_draft, a_patternBegin, a_left, a_ruleCost, a_ruleSize, a_rulePart, a_operator, a_firstPart, a_secondPart, a_stack, a_treeBegin, a_helperOperator, a_helperFirst, a_helperSecond, a_chainFrom, a_openParts, a_stateCost, a_leafState, a_leafAdd, a_oneState, a_oneAdd, a_twoState, a_twoAdd, a_trial, a_nodeCost, a_nodeWays, a_cover, a_workEntry, a_workNode, a_nodeState, a_nodeBase⟩ := u
  obtain ⟨g_noted, g_depth, g_rules, g_planted, g_trees, g_stateCount, g_known, g_listed, b_marks, b_sizes, b_lefts, b_costs, b_lengths, b_operators, b_spans, b_least, b_ways, b_tasks, b_list⟩ := v
  obtain ⟨D, c, op, sp, rt, tn, C, T, H, K, V⟩ := I
  exact h f_drafted f_patternHeight f_rules f_nodes f_treeHeight f_isLaid f_entries f_stateCount f_isWhole f_tooMany f_trialLeast f_covered f_works f_fromStates f_whereFirst f_whereSecond a_draft a_patternBegin a_left a_ruleCost a_ruleSize a_rulePart a_operator a_firstPart a_secondPart a_stack a_treeBegin a_helperOperator a_helperFirst a_helperSecond a_chainFrom a_openParts a_stateCost a_leafState a_leafAdd a_oneState a_oneAdd a_twoState a_twoAdd a_trial a_nodeCost a_nodeWays a_cover a_workEntry a_workNode a_nodeState a_nodeBase g_noted g_depth g_rules g_planted g_trees g_stateCount g_known g_listed b_marks b_sizes b_lefts b_costs b_lengths b_operators b_spans b_least b_ways b_tasks b_list c op sp rt tn D C T H K V
end
section
/-! drafts, rules -/
theorem sm_4 {v : Int32} (h : nI 4 ≤ v) : ¬ v < 0 ∧ ¬ v < 4 ∧ ¬ v ≤ 3 ∧ 3 < v := by
  rw [Int32.le_iff_toInt_le, nI_toInt (by decide)] at h
  have e3 : (3 : Int32).toInt = 3 := by decide
  have e4 : (4 : Int32).toInt = 4 := by decide
  have e0 : (0 : Int32).toInt = 0 := by decide
  rw [Int32.lt_iff_toInt_lt, Int32.lt_iff_toInt_lt, Int32.le_iff_toInt_le, Int32.lt_iff_toInt_lt, e0, e4, e3]
  omega
theorem sm_6 {v : Int32} (h : nI 6 ≤ v) : ¬ v < 0 ∧ ¬ v < 6 ∧ ¬ v ≤ 5 := by
  rw [Int32.le_iff_toInt_le, nI_toInt (by decide)] at h
  have e3 : (5 : Int32).toInt = 5 := by decide
  have e4 : (6 : Int32).toInt = 6 := by decide
  have e0 : (0 : Int32).toInt = 0 := by decide
  rw [Int32.lt_iff_toInt_lt, Int32.lt_iff_toInt_lt, Int32.le_iff_toInt_le, e0, e4, e3]
  omega
theorem sm_10 {v : Int32} (h : nI 10 ≤ v) : ¬ v < 0 ∧ ¬ v ≤ 9 := by
  rw [Int32.le_iff_toInt_le, nI_toInt (by decide)] at h
  have e3 : (9 : Int32).toInt = 9 := by decide
  have e0 : (0 : Int32).toInt = 0 := by decide
  rw [Int32.lt_iff_toInt_lt, Int32.le_iff_toInt_le, e0, e3]
  omega
theorem tc_top {m s : Nat → Nat} {n a : Nat} (P : tc_pt m s n) (ha : a ≤ tc_ht m n) (h2 : a ≤ 2) : (1 ≤ a → 1 ≤ n) ∧ (a = 2 → s (n - 1) + 1 ≤ n) := by
  obtain ⟨rt, F1, F2, F3⟩ := tc_fo_ex P n (Nat.le_refl _)
  refine ⟨fun h => ?_, fun h => ?_⟩
  · have := tc_ht_le m n
    omega
  · obtain ⟨h', e⟩ : ∃ h', tc_ht m n = h' + 2 := ⟨tc_ht m n - 2, by omega⟩
    rw [e] at F1 F2
    have e2 : rt (h' + 1) + 1 = n := F2
    have f : rt (h' + 1) + 1 = rt h' + 1 + s (rt (h' + 1)) := (F1 (h' + 1) (by omega)).2
    have e1 : n - 1 = rt (h' + 1) := by omega
    rw [e1]
    omega
theorem tc_up_s {f : Nat → Nat} {n x : Nat} : tc_up f n x n = x := if_pos rfl
theorem tc_up_n {f : Nat → Nat} {n x j : Nat} (h : j ≠ n) : tc_up f n x j = f j := if_neg h
theorem tc_sq_ext {s s' : Nat → Nat} {a n : Nat} (h1 : 1 ≤ a → 1 ≤ n) (h2 : a = 2 → s (n - 1) + 1 ≤ n) (ha : a ≤ 2) (he : ∀ j, j < n → s' j = s j) : tc_sq s' a n = tc_sq s a n := by
  unfold tc_sq
  by_cases z : a = 0
  · rw [if_pos z, if_pos z]
  · rw [if_neg z, if_neg z]
    have := h1 (by omega)
    by_cases y : a = 1
    · rw [if_pos y, if_pos y, he _ (by omega)]
    · rw [if_neg y, if_neg y]
      have := h2 (by omega)
      rw [he (n - 1) (by omega), he (n - 1 - s (n - 1)) (by omega)]
theorem tc_pt_push {m s : Nat → Nat} {n x : Nat} (P : tc_pt m s n) (hx : x < 6 ∨ (10 ≤ x ∧ x < 14)) (ha : tc_ar x ≤ tc_ht m n) :
    tc_pt (tc_up m n x) (tc_up s n (tc_sq s (tc_ar x) n)) (n + 1) ∧ tc_ht (tc_up m n x) (n + 1) = tc_ht m n + 1 - tc_ar x := by
  have em : ∀ j, j < n → tc_up m n x j = m j := fun j hj => tc_up_n (by omega)
  have es : ∀ j, j < n → tc_up s n (tc_sq s (tc_ar x) n) j = s j := fun j hj => tc_up_n (by omega)
  have eh : tc_ht (tc_up m n x) n = tc_ht m n := tc_ht_ext n em
  have Q := tc_pt_ext P em es
  have t := tc_top P ha (tc_ar2 hx)
  refine ⟨fun k hk => ?_, ?_⟩
  · by_cases z : k = n
    · subst z
      rw [tc_up_s, tc_up_s, eh]
      exact ⟨hx, ha, (tc_sq_ext t.1 t.2 (tc_ar2 hx) es).symm⟩
    · exact Q k (by omega)
  · show tc_ht (tc_up m n x) n + 1 - tc_ar (tc_up m n x n) = _
    rw [eh, tc_up_s]
section
variable {f_drafted f_patternHeight f_rules f_nodes f_treeHeight f_isLaid f_entries f_stateCount f_isWhole f_tooMany f_trialLeast f_covered f_works f_fromStates f_whereFirst f_whereSecond : Int32} {a_draft a_patternBegin a_left a_ruleCost a_ruleSize a_rulePart a_operator a_firstPart a_secondPart a_stack a_treeBegin a_helperOperator a_helperFirst a_helperSecond a_chainFrom a_openParts a_stateCost a_leafState a_leafAdd a_oneState a_oneAdd a_twoState a_twoAdd a_trial a_nodeCost a_nodeWays a_cover a_workEntry a_workNode a_nodeState a_nodeBase : Nat → Int32} {g_noted g_depth g_rules g_planted g_trees g_stateCount g_known g_listed : Int32} {b_marks b_sizes b_lefts b_costs b_lengths b_operators b_spans b_least b_ways b_tasks b_list : Nat → Int32}
theorem sm_push {post : Int32 → SY → Prop} {a dn h : Nat} {x : Int32} {ds : Nat → Nat} (ha : a ≤ 2) (hah : a ≤ h) (hh : h ≤ 7) (hd : dn < 7) (hS : ∀ k, k < dn → b_sizes (70 + k) = nI (ds k)) (l1 : 1 ≤ a → 1 ≤ dn) (l2 : a = 2 → ds (dn - 1) + 1 ≤ dn)
    (K : post (nI (h + 1 - a)) (nI (dn + 1), nI (h + 1 - a), g_rules, g_planted, g_trees, g_stateCount, g_known, g_listed, upd b_marks (70 + dn) x, upd b_sizes (70 + dn) (nI (tc_sq ds a dn)), b_lefts, b_costs, b_lengths, b_operators, b_spans, b_least, b_ways, b_tasks, b_list)) : wpY_push post (nI dn, nI h, g_rules, g_planted, g_trees, g_stateCount, g_known, g_listed, b_marks, b_sizes, b_lefts, b_costs, b_lengths, b_operators, b_spans, b_least, b_ways, b_tasks, b_list) x (nI a) := by
  have e70 : (70 : Int32) + nI dn = nI (70 + dn) := yw_l 70 dn rfl
  have i70 : vp_in (70 + nI dn) 77 := by rw [e70]; exact vp_in_nI (by omega) (by decide)
  have fin : ∀ sz n, sz = tc_sq ds a dn → wY_push_5 post x (nI a) (nI dn) (nI h) g_rules g_planted g_trees g_stateCount g_known g_listed b_marks b_sizes b_lefts b_costs b_lengths b_operators b_spans b_least b_ways b_tasks b_list (n + 1) (nI sz) (nI a) := by
    intro sz n es
    have e1 : nI h + 1 - nI a = nI (h + 1 - a) := by rw [nI_1, pk_sub (by omega)]
    refine pk_le a a (fun _ => ⟨i70, nm_r (e' := upd b_marks (70 + dn) x) (by rw [e70, nI_clamp (by omega)]) ⟨i70, nm_r (e' := upd b_sizes (70 + dn) (nI (tc_sq ds a dn))) (by rw [e70, nI_clamp (by omega), es]) (nm_r (nI_1 dn) (nm_r e1 K))⟩⟩) (fun z => by omega)
  have stp : ∀ sz i n, sz ≤ dn → 1 ≤ sz → i < a → wY_push_5 post x (nI a) (nI dn) (nI h) g_rules g_planted g_trees g_stateCount g_known g_listed b_marks b_sizes b_lefts b_costs b_lengths b_operators b_spans b_least b_ways b_tasks b_list n (nI (sz + ds (dn - sz))) (nI (i + 1)) → wY_push_5 post x (nI a) (nI dn) (nI h) g_rules g_planted g_trees g_stateCount g_known g_listed b_marks b_sizes b_lefts b_costs b_lengths b_operators b_spans b_least b_ways b_tasks b_list (n + 1) (nI sz) (nI i) := by
    intro sz i n h1 h0 h2 hk
    have e1 : (70 : Int32) + nI dn - nI sz = nI (70 + (dn - sz)) := by rw [e70, pk_sub (by omega)]; exact congrArg nI (by omega)
    refine pk_le a i (fun z => by omega) (fun _ => ⟨pk_in (70 + (dn - sz)) 77 (by omega) e1, nm_r (e' := nI (sz + ds (dn - sz))) ?_ (nm_r (nI_1 i) hk)⟩)
    rw [e1, nI_clamp (by omega), hS _ (by omega), nI_add]
  by_cases z : a = 0
  · subst z
    exact ⟨1, fin 1 0 rfl⟩
  · by_cases y : a = 1
    · subst y
      have := l1 (by omega)
      exact ⟨2, stp 1 0 1 (by omega) (by omega) (by omega) (fin _ 0 rfl)⟩
    · have e : a = 2 := by omega
      subst e
      have := l1 (by omega)
      have h2 := l2 rfl
      refine ⟨3, stp 1 0 2 (by omega) (by omega) (by omega) (stp _ 1 1 (by omega) (by omega) (by omega) (fin _ 0 ?_))⟩
      unfold tc_sq
      rw [if_neg (by decide), if_neg (by decide), show dn - (1 + ds (dn - 1)) = dn - 1 - ds (dn - 1) by omega]
      omega
theorem yw_U_hi {c : tc_C} {marks sizes lefts costs lengths marks' sizes' : Nat → Int32} (W : tc_wf c) (U : yw_U c marks sizes lefts costs lengths) (h1 : ∀ j, j < 70 → marks' j = marks j) (h2 : ∀ j, j < 70 → sizes' j = sizes j) : yw_U c marks' sizes' lefts costs lengths := fun r hr => by
  obtain ⟨u1, u2, u3, u4⟩ := U r hr
  have := W.1
  have := (W.2 r hr).2.2.2.1
  refine ⟨u1, u2, u3, fun k hk => ?_⟩
  rw [h1 _ (by omega), h2 _ (by omega)]
  exact u4 k hk
/-- a part is drafted: the relation goes on -/
theorem rl_D_push {dn x h a : Nat} {dm ds : Nat → Nat} {cx : Int32} (hx : x < 6 ∨ (10 ≤ x ∧ x < 14)) (ha : tc_ar x ≤ tc_ht dm dn) (hd : dn < 7) (h6 : tc_ht dm dn + 1 - tc_ar x ≤ 6) (P : tc_pt dm ds dn) (L : ∀ k, k < dn → a_draft k = tc_cd (dm k) ∧ b_marks (70 + k) = nI (dm k) ∧ b_sizes (70 + k) = nI (ds k)) (hc : cx = tc_cd x) (ea : tc_ar x = a) (eh : h = tc_ht dm dn + 1 - a) :
    rl_D (nI (dn + 1)) (nI h) (nI (dn + 1)) (nI h) (upd a_draft dn cx) (upd b_marks (70 + dn) (nI x)) (upd b_sizes (70 + dn) (nI (tc_sq ds a dn))) := by
  subst ea
  obtain ⟨q1, q2⟩ := tc_pt_push P hx ha
  refine ⟨dn + 1, tc_up dm dn x, tc_up ds dn (tc_sq ds (tc_ar x) dn), rfl, by rw [q2, eh], rfl, by rw [q2, eh], by omega, by rw [q2]; exact h6, q1, fun k hk => ?_⟩
  by_cases z : k = dn
  · subst z
    rw [pk_us, pk_us, pk_us, tc_up_s, tc_up_s]
    exact ⟨hc, rfl, rfl⟩
  · rw [pk_un z, pk_un (by omega), pk_un (by omega), tc_up_n z, tc_up_n z]
    exact L k (by omega)
end
theorem i_vc0 : wpX_init (fun u => wpY_init (fun v => i_Rel 0 u v)) := by
  show i_Rel 0 (0, 0, 0, 0, 0, 0, 0, 0, 0, 0, 0, 0, 0, 0, 0, 0, (fun _ => 0), (fun _ => 0), (fun _ => 0), (fun _ => 0), (fun _ => 0), (fun _ => 0), (fun _ => 0), (fun _ => 0), (fun _ => 0), (fun _ => 0), (fun _ => 0), (fun _ => 0), (fun _ => 0), (fun _ => 0), (fun _ => 0), (fun _ => 0), (fun _ => 0), (fun _ => 0), (fun _ => 0), (fun _ => 0), (fun _ => 0), (fun _ => 0), (fun _ => 0), (fun _ => 0), (fun _ => 0), (fun _ => 0), (fun _ => 0), (fun _ => 0), (fun _ => 0), (fun _ => 0), (fun _ => 0)) (0, 0, 0, 0, 0, 0, 0, 0, (fun _ => 0), (fun _ => 0), (fun _ => 0), (fun _ => 0), (fun _ => 0), (fun _ => 0), (fun _ => 0), (fun _ => 0), (fun _ => 0), (fun _ => 0), (fun _ => 0))
  exact rl_in (c := (0, fun _ => 0, fun _ => 0, fun _ => 0, fun _ => 0, fun _ => 0)) (op := fun _ => 0) (sp := fun _ => 0) (rt := fun _ => 0) (tn := 0)
    ⟨0, fun _ => 0, fun _ => 0, rfl, rfl, rfl, rfl, by omega, Nat.zero_le _, fun k hk => absurd hk (Nat.not_lt_zero _), fun k hk => absurd hk (Nat.not_lt_zero _)⟩
    ⟨rfl, rfl, ⟨Nat.zero_le _, fun r hr => absurd hr (Nat.not_lt_zero _)⟩, fun r hr => absurd hr (Nat.not_lt_zero _), fun r hr => absurd hr (Nat.not_lt_zero _)⟩
    ⟨rfl, rfl, rfl, rfl, ⟨by omega, fun k hk => absurd hk (Nat.not_lt_zero _), fun k hk => absurd hk (Nat.not_lt_zero _)⟩, Nat.zero_le _, tc_fo_0, fun k hk => absurd hk (Nat.not_lt_zero _), fun k hk => absurd hk (Nat.not_lt_zero _), fun k hk => absurd hk (Nat.not_lt_zero _)⟩
    (Or.inl rfl) (Or.inl rfl) (Or.inr ⟨rfl, Or.inl rfl⟩)
theorem i_vc_goal {k : Nat} {u : SX} {v : SY} (I : i_Rel k u v) (hk : k + 3 ≤ 1536) (v1 : Int32) : wpX_goal (fun r u' => wpY_goal (fun r' v' => r' = r ∧ i_Rel (k + 3) u' v') v v1) u v1 := by
  refine rl_el (P := fun u v => wpX_goal (fun r u' => wpY_goal (fun r' v' => r' = r ∧ i_Rel (k + 3) u' v') v v1) u v1) I ?_
  intro f_drafted f_patternHeight f_rules f_nodes f_treeHeight f_isLaid f_entries f_stateCount f_isWhole f_tooMany f_trialLeast f_covered f_works f_fromStates f_whereFirst f_whereSecond a_draft a_patternBegin a_left a_ruleCost a_ruleSize a_rulePart a_operator a_firstPart a_secondPart a_stack a_treeBegin a_helperOperator a_helperFirst a_helperSecond a_chainFrom a_openParts a_stateCost a_leafState a_leafAdd a_oneState a_oneAdd a_twoState a_twoAdd a_trial a_nodeCost a_nodeWays a_cover a_workEntry a_workNode a_nodeState a_nodeBase g_noted g_depth g_rules g_planted g_trees g_stateCount g_known g_listed b_marks b_sizes b_lefts b_costs b_lengths b_operators b_spans b_least b_ways b_tasks b_list c op sp rt tn D C T H K V
  rcases pk_ix v1 (n := 4) (by decide) with h | h | ⟨j, hj, rfl⟩
  · exact br_t h (br_f (by decide) (br_t h ⟨rfl, rl_in D C T H K V⟩))
  · obtain ⟨h1, h2, h3, -⟩ := sm_4 h
    exact br_f h1 (br_f h2 (br_f (by decide) (br_f h1 (br_f h3 ⟨rfl, rl_in D C T H K V⟩))))
  · have D0 := D
    obtain ⟨dn, dm, ds, rfl, rfl, rfl, rfl, d5, d6, d7, d8⟩ := D
    have n0 : ¬ nI j < 0 := nI_pos (by omega)
    have n4 : nI j < 4 := nI_lt (b := 4) (by omega) (by decide)
    have n3 : nI j ≤ 3 := nI_le (b := 3) (by omega) (by decide)
    refine br_f n0 (br_t n4 (br_t rfl (pk_eq (tc_ht dm dn) 6 (fun z => ?_) (fun z => pk_eq dn 7 (fun y => ?_) (fun y => ?_)))))
    · exact br_f n0 (br_t n3 (br_t (by rw [z]; rfl) ⟨rfl, rl_in D0 C T H K V⟩))
    · exact br_f n0 (br_t n3 (br_f (fun q => z ((nI_eq (b := 6) (by omega) (by decide)).mp q)) (br_t (by rw [y]; rfl) ⟨rfl, rl_in D0 C T H K V⟩)))
    · have em : (10 : Int32) + nI j = nI (10 + j) := yw_l 10 j rfl
      have a0 : tc_ar (10 + j) = 0 := if_neg (by omega)
      refine ⟨vp_in_nI (by omega) (by decide), nm_e (nm_r (nI_1 _) ⟨vp_in_nI (by omega) (by decide), nm_r (tc_upc (y := tc_cd (10 + j)) (by omega) ?_) (nm_r (nI_1 _) ?_)⟩)⟩
      · unfold tc_cd
        rw [if_neg (by omega), show 10 + j - 10 = j by omega]
      · refine br_f n0 (br_t n3 (br_f (fun q => z ((nI_eq (b := 6) (by omega) (by decide)).mp q)) (br_f (fun q => y ((nI_eq (b := 7) (by omega) (by decide)).mp q)) ?_)))
        rw [em]
        refine sm_push (a := 0) (ds := ds) (by omega) (by omega) (by omega) (by omega) (fun q hq => (d8 q hq).2.2) (fun z => by omega) (fun z => by omega) ⟨rfl, ?_⟩
        obtain ⟨c1, c2, c3, c4, c5⟩ := C
        refine rl_in (rl_D_push (x := 10 + j) (Or.inr ⟨by omega, by omega⟩) (by omega) (by omega) (by omega) d7 d8 rfl a0 rfl) ⟨c1, c2, c3, c4, yw_U_hi c3 c5 (fun q hq => pk_un (by omega)) (fun q hq => pk_un (by omega))⟩ T H K V
theorem i_vc_pattern {k : Nat} {u : SX} {v : SY} (I : i_Rel k u v) (hk : k + 3 ≤ 1536) (v1 : Int32) : wpX_pattern (fun r u' => wpY_pattern (fun r' v' => r' = r ∧ i_Rel (k + 3) u' v') v v1) u v1 := by
  refine rl_el (P := fun u v => wpX_pattern (fun r u' => wpY_pattern (fun r' v' => r' = r ∧ i_Rel (k + 3) u' v') v v1) u v1) I ?_
  intro f_drafted f_patternHeight f_rules f_nodes f_treeHeight f_isLaid f_entries f_stateCount f_isWhole f_tooMany f_trialLeast f_covered f_works f_fromStates f_whereFirst f_whereSecond a_draft a_patternBegin a_left a_ruleCost a_ruleSize a_rulePart a_operator a_firstPart a_secondPart a_stack a_treeBegin a_helperOperator a_helperFirst a_helperSecond a_chainFrom a_openParts a_stateCost a_leafState a_leafAdd a_oneState a_oneAdd a_twoState a_twoAdd a_trial a_nodeCost a_nodeWays a_cover a_workEntry a_workNode a_nodeState a_nodeBase g_noted g_depth g_rules g_planted g_trees g_stateCount g_known g_listed b_marks b_sizes b_lefts b_costs b_lengths b_operators b_spans b_least b_ways b_tasks b_list c op sp rt tn D C T H K V
  rcases pk_ix v1 (n := 6) (by decide) with h | h | ⟨j, hj, rfl⟩
  · exact br_t h (br_f (by decide) (br_t h ⟨rfl, rl_in D C T H K V⟩))
  · obtain ⟨h1, h2, h3⟩ := sm_6 h
    exact br_f h1 (br_f h2 (br_f (by decide) (br_f h1 (br_f h3 ⟨rfl, rl_in D C T H K V⟩))))
  · have D0 := D
    obtain ⟨dn, dm, ds, rfl, rfl, rfl, rfl, d5, d6, d7, d8⟩ := D
    have n0 : ¬ nI j < 0 := nI_pos (by omega)
    have n4 : nI j < 6 := nI_lt (b := 6) (by omega) (by decide)
    have n3 : nI j ≤ 5 := nI_le (b := 5) (by omega) (by decide)
    have aj : tc_ar j = j / 2 := if_pos (by omega)
    have ey : nI j / 2 = nI (j / 2) := pk_div (d := 2) (by omega) (by decide) (by decide)
    have yar : ∀ (post : Int32 → Prop), post (nI (j / 2)) → wpY_partsOf post (nI dn, nI (tc_ht dm dn), g_rules, g_planted, g_trees, g_stateCount, g_known, g_listed, b_marks, b_sizes, b_lefts, b_costs, b_lengths, b_operators, b_spans, b_least, b_ways, b_tasks, b_list) (nI j) := fun post hp => ⟨by decide, by rw [ey]; exact hp⟩
    refine br_f n0 (br_t n4 (br_t rfl (xs_arity (by omega) (pk_le (j / 2) (tc_ht dm dn) (fun z => ?_) (fun z => ?_)))))
    · have es : nI (tc_ht dm dn) - nI (j / 2) = nI (tc_ht dm dn - j / 2) := pk_sub z
      have ed : nI (tc_ht dm dn) + 1 - nI (j / 2) = nI (tc_ht dm dn + 1 - j / 2) := by rw [nI_1, pk_sub (by omega)]
      refine pk_eq (tc_ht dm dn - j / 2) 6 (fun y => ?_) (fun y => pk_eq dn 7 (fun x => ?_) (fun x => ?_)) es
      · refine br_f n0 (br_t n3 (yar _ (br_t (nI_le z (by omega)) (br_t ?_ ⟨rfl, rl_in D0 C T H K V⟩))))
        rw [ed]; exact nI_lt (a := 6) (by omega) (by omega)
      · refine br_f n0 (br_t n3 (yar _ (br_t (nI_le z (by omega)) (br_f ?_ (br_t (by rw [x]; rfl) ⟨rfl, rl_in D0 C T H K V⟩)))))
        rw [ed]; exact nI_nlt (a := 6) (by omega) (by omega)
      · obtain ⟨t1, t2⟩ := tc_top d7 (a := j / 2) z (by omega)
        have fin : ∀ pb : Nat → Int32, wX_pattern_67 (fun r u' => wpY_pattern (fun r' v' => r' = r ∧ i_Rel (k + 3) u' v') (nI dn, nI (tc_ht dm dn), g_rules, g_planted, g_trees, g_stateCount, g_known, g_listed, b_marks, b_sizes, b_lefts, b_costs, b_lengths, b_operators, b_spans, b_least, b_ways, b_tasks, b_list) (nI j)) (nI j) (nI (j / 2)) (nI dn) (nI (tc_ht dm dn)) f_rules f_nodes f_treeHeight f_isLaid f_entries f_stateCount f_isWhole f_tooMany f_trialLeast f_covered f_works f_fromStates f_whereFirst f_whereSecond a_draft pb a_left a_ruleCost a_ruleSize a_rulePart a_operator a_firstPart a_secondPart a_stack a_treeBegin a_helperOperator a_helperFirst a_helperSecond a_chainFrom a_openParts a_stateCost a_leafState a_leafAdd a_oneState a_oneAdd a_twoState a_twoAdd a_trial a_nodeCost a_nodeWays a_cover a_workEntry a_workNode a_nodeState a_nodeBase := by
          intro pb
          have e1 : nI (tc_ht dm dn) - nI (j / 2) + 1 = nI (tc_ht dm dn + 1 - j / 2) := by rw [es, nI_1]; exact congrArg nI (by omega)
          refine nm_r e1 ⟨vp_in_nI (by omega) (by decide), nm_r (tc_upc (y := nI j) (by omega) rfl) (nm_r (nI_1 dn) ?_)⟩
          refine br_f n0 (br_t n3 (yar _ (br_t (nI_le z (by omega)) (br_f ?_ (br_f (fun q => x ((nI_eq (b := 7) (by omega) (by decide)).mp q)) ?_)))))
          · rw [ed]; exact nI_nlt (a := 6) (by omega) (by omega)
          · refine sm_push (ds := ds) (by omega) z (by omega) (by omega) (fun q hq => (d8 q hq).2.2) t1 t2 ⟨rfl, ?_⟩
            obtain ⟨c1, c2, c3, c4, c5⟩ := C
            exact rl_in (rl_D_push (x := j) (Or.inl hj) (by omega) (by omega) (by omega) d7 d8 (tc_cd_op (by omega)).symm aj rfl) ⟨c1, c2, c3, c4, yw_U_hi c3 c5 (fun q hq => pk_un (by omega)) (fun q hq => pk_un (by omega))⟩ T H K V
        refine pk_eq (j / 2) 0 (fun w => ⟨vp_in_nI (by omega) (by decide), nm_e (fin _)⟩) (fun w => fin _)
    · exact br_f n0 (br_t n3 (yar _ (br_f (nI_ge z (by omega)) ⟨rfl, rl_in D0 C T H K V⟩)))
theorem i_vc_scrap {k : Nat} {u : SX} {v : SY} (I : i_Rel k u v) (hk : k + 3 ≤ 1536) : wpX_scrap (fun r u' => wpY_scrap (fun r' v' => r' = r ∧ i_Rel (k + 3) u' v') v) u := by
  refine rl_el (P := fun u v => wpX_scrap (fun r u' => wpY_scrap (fun r' v' => r' = r ∧ i_Rel (k + 3) u' v') v) u) I ?_
  intro f_drafted f_patternHeight f_rules f_nodes f_treeHeight f_isLaid f_entries f_stateCount f_isWhole f_tooMany f_trialLeast f_covered f_works f_fromStates f_whereFirst f_whereSecond a_draft a_patternBegin a_left a_ruleCost a_ruleSize a_rulePart a_operator a_firstPart a_secondPart a_stack a_treeBegin a_helperOperator a_helperFirst a_helperSecond a_chainFrom a_openParts a_stateCost a_leafState a_leafAdd a_oneState a_oneAdd a_twoState a_twoAdd a_trial a_nodeCost a_nodeWays a_cover a_workEntry a_workNode a_nodeState a_nodeBase g_noted g_depth g_rules g_planted g_trees g_stateCount g_known g_listed b_marks b_sizes b_lefts b_costs b_lengths b_operators b_spans b_least b_ways b_tasks b_list c op sp rt tn D C T H K V
  obtain ⟨dn, dm, ds, d1, d2, d3, d4, -⟩ := D
  exact ⟨d4.trans d2.symm, rl_in ⟨0, fun _ => 0, fun _ => 0, rfl, rfl, rfl, rfl, by omega, Nat.zero_le _, fun k hk => absurd hk (Nat.not_lt_zero _), fun k hk => absurd hk (Nat.not_lt_zero _)⟩ C T H K V⟩
end
section
/-! rule, unrule -/
section
variable {f_drafted f_patternHeight f_rules f_nodes f_treeHeight f_isLaid f_entries f_stateCount f_isWhole f_tooMany f_trialLeast f_covered f_works f_fromStates f_whereFirst f_whereSecond : Int32} {a_draft a_patternBegin a_left a_ruleCost a_ruleSize a_rulePart a_operator a_firstPart a_secondPart a_stack a_treeBegin a_helperOperator a_helperFirst a_helperSecond a_chainFrom a_openParts a_stateCost a_leafState a_leafAdd a_oneState a_oneAdd a_twoState a_twoAdd a_trial a_nodeCost a_nodeWays a_cover a_workEntry a_workNode a_nodeState a_nodeBase : Nat → Int32} {g_noted g_depth g_rules g_planted g_trees g_stateCount g_known g_listed : Int32} {b_marks b_sizes b_lefts b_costs b_lengths b_operators b_spans b_least b_ways b_tasks b_list : Nat → Int32}
theorem sr_101 {post : Int32 → SX → Prop} {dn nr : Nat} (hd : dn ≤ 7) (hr : nr < 10)
    (K : ∀ rp : Nat → Int32, (∀ j, j < 7 * nr → rp j = a_rulePart j) → (∀ k, k < dn → rp (7 * nr + k) = a_draft k) → post (nI nr) (0, 0, nI (nr + 1), f_nodes, f_treeHeight, 0, f_entries, f_stateCount, f_isWhole, f_tooMany, f_trialLeast, f_covered, f_works, f_fromStates, f_whereFirst, f_whereSecond, a_draft, a_patternBegin, a_left, a_ruleCost, a_ruleSize, rp, a_operator, a_firstPart, a_secondPart, a_stack, a_treeBegin, a_helperOperator, a_helperFirst, a_helperSecond, a_chainFrom, a_openParts, a_stateCost, a_leafState, a_leafAdd, a_oneState, a_oneAdd, a_twoState, a_twoAdd, a_trial, a_nodeCost, a_nodeWays, a_cover, a_workEntry, a_workNode, a_nodeState, a_nodeBase)) :
    ∀ d k, k + d = dn → ∀ rp : Nat → Int32, (∀ j, j < 7 * nr → rp j = a_rulePart j) → (∀ q, q < k → rp (7 * nr + q) = a_draft q) → ∀ n, d < n → wX_rule_101 post (nI dn) f_patternHeight (nI nr) f_nodes f_treeHeight f_isLaid f_entries f_stateCount f_isWhole f_tooMany f_trialLeast f_covered f_works f_fromStates f_whereFirst f_whereSecond n (nI k) a_draft a_patternBegin a_left a_ruleCost a_ruleSize rp a_operator a_firstPart a_secondPart a_stack a_treeBegin a_helperOperator a_helperFirst a_helperSecond a_chainFrom a_openParts a_stateCost a_leafState a_leafAdd a_oneState a_oneAdd a_twoState a_twoAdd a_trial a_nodeCost a_nodeWays a_cover a_workEntry a_workNode a_nodeState a_nodeBase := by
  intro d
  induction d with
  | zero =>
    intro k hk rp h1 h2 n hn
    obtain ⟨n, rfl⟩ : ∃ m, n = m + 1 := ⟨n - 1, by omega⟩
    have ek : k = dn := by omega
    subst ek
    refine pk_le k k (fun _ => nm_r (nI_1 nr) ?_) (fun z => by omega)
    have q := K rp h1 h2
    rw [← nI_pred nr] at q
    exact q
  | succ d ih =>
    intro k hk rp h1 h2 n hn
    obtain ⟨n, rfl⟩ : ∃ m, n = m + 1 := ⟨n - 1, by omega⟩
    have e1 := yw_7 nr k
    refine pk_le dn k (fun z => by omega) (fun _ => ⟨vp_in_nI (by omega) (by decide), pk_in (7 * nr + k) 70 (by omega) e1, nm_r (e' := upd rp (7 * nr + k) (a_draft k)) (by rw [e1, nI_clamp (by omega), nI_clamp (by omega)]) (nm_r (nI_1 k) (ih (k + 1) (by omega) (upd rp (7 * nr + k) (a_draft k)) (fun j hj => ?_) (fun q hq => ?_) n (by omega)))⟩)
    · rw [pk_un (by omega)]; exact h1 j hj
    · by_cases z : q = k
      · rw [z, pk_us]
      · rw [pk_un (by omega)]; exact h2 q (by omega)
theorem sr_69 {post : Int32 → SY → Prop} {dn nr : Nat} {x1 x2 : Int32} (hd : dn ≤ 7) (hr : nr < 10)
    (K : ∀ ms ss : Nat → Int32, (∀ j, (j < 7 * nr ∨ 70 ≤ j) → ms j = b_marks j ∧ ss j = b_sizes j) → (∀ k, k < dn → ms (7 * nr + k) = b_marks (70 + k) ∧ ss (7 * nr + k) = b_sizes (70 + k)) →
      post (nI nr) (0, 0, nI (nr + 1), g_planted, g_trees, g_stateCount, 0, g_listed, ms, ss, upd b_lefts nr x1, upd b_costs nr x2, upd b_lengths nr (nI dn), b_operators, b_spans, b_least, b_ways, b_tasks, b_list)) :
    ∀ d k, k + d = dn → ∀ ms ss : Nat → Int32, (∀ j, (j < 7 * nr ∨ 70 ≤ j) → ms j = b_marks j ∧ ss j = b_sizes j) → (∀ q, q < k → ms (7 * nr + q) = b_marks (70 + q) ∧ ss (7 * nr + q) = b_sizes (70 + q)) → ∀ n, d < n → wY_rule_69 post x1 x2 (nI dn) g_depth (nI nr) g_planted g_trees g_stateCount g_known g_listed n (nI k) ms ss b_lefts b_costs b_lengths b_operators b_spans b_least b_ways b_tasks b_list := by
  have i1 : vp_in (nI nr) 10 := vp_in_nI hr (by decide)
  intro d
  induction d with
  | zero =>
    intro k hk ms ss h1 h2 n hn
    obtain ⟨n, rfl⟩ : ∃ m, n = m + 1 := ⟨n - 1, by omega⟩
    have ek : k = dn := by omega
    subst ek
    refine pk_le k k (fun _ => ⟨i1, nm_r (tc_upc (by omega) rfl) ⟨i1, nm_r (tc_upc (by omega) rfl) ⟨i1, nm_r (tc_upc (by omega) rfl) (nm_r (nI_1 nr) ?_)⟩⟩⟩) (fun z => by omega)
    have q := K ms ss h1 h2
    rw [← nI_pred nr] at q
    exact q
  | succ d ih =>
    intro k hk ms ss h1 h2 n hn
    obtain ⟨n, rfl⟩ : ∃ m, n = m + 1 := ⟨n - 1, by omega⟩
    have e1 := yw_7 nr k
    have e2 : (70 : Int32) + nI k = nI (70 + k) := yw_l 70 k rfl
    have i2 : vp_in (70 + nI k) 77 := by rw [e2]; exact vp_in_nI (by omega) (by decide)
    have i3 : vp_in (7 * nI nr + nI k) 77 := by rw [e1]; exact vp_in_nI (by omega) (by decide)
    have m1 := h1 (70 + k) (Or.inr (by omega))
    refine pk_le dn k (fun z => by omega) (fun _ => ⟨i2, i3, nm_r (e' := upd ms (7 * nr + k) (b_marks (70 + k))) (by rw [e1, e2, nI_clamp (by omega), nI_clamp (by omega), m1.1]) ⟨i2, i3, nm_r (e' := upd ss (7 * nr + k) (b_sizes (70 + k))) (by rw [e1, e2, nI_clamp (by omega), nI_clamp (by omega), m1.2]) (nm_r (nI_1 k) (ih (k + 1) (by omega) (upd ms (7 * nr + k) (b_marks (70 + k))) (upd ss (7 * nr + k) (b_sizes (70 + k))) (fun j hj => ?_) (fun q hq => ?_) n (by omega)))⟩⟩)
    · rw [pk_un (by omega), pk_un (by omega)]; exact h1 j hj
    · by_cases z : q = k
      · rw [z, pk_us, pk_us]; exact ⟨rfl, rfl⟩
      · rw [pk_un (by omega), pk_un (by omega)]; exact h2 q (by omega)
end
theorem tc_wr_ext {c c' : tc_C} {r : Nat} (h : tc_wr c r) (e1 : tc_lf c' r = tc_lf c r) (e2 : tc_rc c' r = tc_rc c r) (e3 : tc_rn c' r = tc_rn c r) (e4 : ∀ k, k < 7 → tc_mk c' (7 * r + k) = tc_mk c (7 * r + k)) (e5 : ∀ k, k < 7 → tc_sz c' (7 * r + k) = tc_sz c (7 * r + k)) : tc_wr c' r := by
  obtain ⟨w1, w2, w3, w4, w5, w6, w7⟩ := h
  unfold tc_wr
  rw [e1, e2, e3]
  refine ⟨w1, w2, w3, w4, tc_pt_ext w5 (fun j hj => e4 j (by omega)) (fun j hj => e5 j (by omega)), ?_, ?_⟩
  · rw [← w6]; exact tc_ht_ext _ (fun j hj => e4 j (by omega))
  · rw [show 7 * r + tc_rn c r - 1 = 7 * r + (tc_rn c r - 1) by omega, e4 _ (by omega), show 7 * r + (tc_rn c r - 1) = 7 * r + tc_rn c r - 1 by omega]
    exact w7
/-- the context with one rule more -/
def sr_c (c : tc_C) (g cost dn : Nat) (dm ds : Nat → Nat) : tc_C :=
  (tc_nr c + 1, tc_up (tc_lf c) (tc_nr c) g, tc_up (tc_rc c) (tc_nr c) cost, tc_up (tc_rn c) (tc_nr c) dn, fun p => if p < 7 * tc_nr c then tc_mk c p else dm (p - 7 * tc_nr c), fun p => if p < 7 * tc_nr c then tc_sz c p else ds (p - 7 * tc_nr c))
theorem sr_wf {c : tc_C} {g cost dn : Nat} {dm ds : Nat → Nat} (W : tc_wf c) (hr : tc_nr c < 10) (hg : g < 4) (hc : cost ≤ 9) (h1 : 1 ≤ dn) (h7 : dn ≤ 7) (P : tc_pt dm ds dn) (hh : tc_ht dm dn = 1) (hz : cost = 0 → dm (dn - 1) < 10) : tc_wf (sr_c c g cost dn dm ds) := by
  have em : ∀ k, (fun k => tc_mk (sr_c c g cost dn dm ds) (7 * tc_nr c + k)) k = dm k := fun k => by
    show (if 7 * tc_nr c + k < 7 * tc_nr c then _ else dm (7 * tc_nr c + k - 7 * tc_nr c)) = _
    rw [if_neg (by omega), show 7 * tc_nr c + k - 7 * tc_nr c = k by omega]
  have es : ∀ k, (fun k => tc_sz (sr_c c g cost dn dm ds) (7 * tc_nr c + k)) k = ds k := fun k => by
    show (if 7 * tc_nr c + k < 7 * tc_nr c then _ else ds (7 * tc_nr c + k - 7 * tc_nr c)) = _
    rw [if_neg (by omega), show 7 * tc_nr c + k - 7 * tc_nr c = k by omega]
  refine ⟨hr, fun r h => ?_⟩
  by_cases z : r = tc_nr c
  · subst z
    have e1 : tc_lf (sr_c c g cost dn dm ds) (tc_nr c) = g := tc_up_s
    have e2 : tc_rc (sr_c c g cost dn dm ds) (tc_nr c) = cost := tc_up_s
    have e3 : tc_rn (sr_c c g cost dn dm ds) (tc_nr c) = dn := tc_up_s
    unfold tc_wr
    rw [e1, e2, e3]
    refine ⟨hg, hc, h1, h7, tc_pt_ext P (fun j _ => em j) (fun j _ => es j), (tc_ht_ext dn (fun j _ => em j)).trans hh, fun q => ?_⟩
    rw [show 7 * tc_nr c + dn - 1 = 7 * tc_nr c + (dn - 1) by omega]
    have e := em (dn - 1)
    dsimp only at e
    rw [e]
    exact hz q
  · have hlt : r < tc_nr c := by
      have : r < tc_nr c + 1 := h
      omega
    refine tc_wr_ext (W.2 r hlt) (tc_up_n z) (tc_up_n z) (tc_up_n z) (fun k hk => ?_) (fun k hk => ?_)
    · show (if 7 * r + k < 7 * tc_nr c then tc_mk c (7 * r + k) else _) = _
      rw [if_pos (by omega)]
    · show (if 7 * r + k < 7 * tc_nr c then tc_sz c (7 * r + k) else _) = _
      rw [if_pos (by omega)]
theorem sr_last {dm ds : Nat → Nat} {dn : Nat} (P : tc_pt dm ds dn) (hh : tc_ht dm dn = 1) : 1 ≤ dn ∧ (10 ≤ dm (dn - 1) → dn = 1) := by
  have h1 : 1 ≤ dn := by have := tc_ht_le dm dn; omega
  refine ⟨h1, fun h => ?_⟩
  obtain ⟨rt, F1, F2, F3⟩ := tc_fo_ex P dn (Nat.le_refl _)
  rw [hh] at F1 F2
  have e1 : rt 0 + 1 = dn := F2
  have e2 : rt 0 + 1 = 0 + ds (rt 0) := (F1 0 (by omega)).2
  obtain ⟨p1, p2, p3⟩ := P (dn - 1) (by omega)
  have a0 : tc_ar (dm (dn - 1)) = 0 := if_neg (by omega)
  rw [a0] at p3
  have e3 : ds (dn - 1) = 1 := p3
  rw [show rt 0 = dn - 1 by omega] at e2
  omega
end
section
/-! rule, unrule, fell, size -/
theorem sr_R {c : tc_C} {g cost dn : Nat} {dm ds : Nat → Nat} {left ruleCost ruleSize rulePart rp draft : Nat → Int32} (W : tc_wf c) (R : xl_R c left ruleCost ruleSize rulePart) (h1 : ∀ j, j < 7 * tc_nr c → rp j = rulePart j) (h2 : ∀ k, k < dn → rp (7 * tc_nr c + k) = draft k) (h3 : ∀ k, k < dn → draft k = tc_cd (dm k)) :
    xl_R (sr_c c g cost dn dm ds) (upd left (tc_nr c) (nI g)) (upd ruleCost (tc_nr c) (nI cost)) (upd ruleSize (tc_nr c) (nI dn)) rp := by
  intro r hr
  by_cases z : r = tc_nr c
  · subst z
    rw [pk_us, pk_us, pk_us, show tc_lf (sr_c c g cost dn dm ds) (tc_nr c) = g from tc_up_s, show tc_rc (sr_c c g cost dn dm ds) (tc_nr c) = cost from tc_up_s, show tc_rn (sr_c c g cost dn dm ds) (tc_nr c) = dn from tc_up_s]
    refine ⟨rfl, rfl, rfl, fun k hk => ?_⟩
    rw [h2 k hk, h3 k hk]
    show _ = tc_cd (if 7 * tc_nr c + k < 7 * tc_nr c then _ else dm (7 * tc_nr c + k - 7 * tc_nr c))
    rw [if_neg (by omega), show 7 * tc_nr c + k - 7 * tc_nr c = k by omega]
  · have hlt : r < tc_nr c := by
      have : r < tc_nr c + 1 := hr
      omega
    obtain ⟨r1, r2, r3, r4⟩ := R r hlt
    have h7 := (W.2 r hlt).2.2.2.1
    rw [pk_un z, pk_un z, pk_un z, show tc_lf (sr_c c g cost dn dm ds) r = tc_lf c r from tc_up_n z, show tc_rc (sr_c c g cost dn dm ds) r = tc_rc c r from tc_up_n z, show tc_rn (sr_c c g cost dn dm ds) r = tc_rn c r from tc_up_n z]
    refine ⟨r1, r2, r3, fun k hk => ?_⟩
    rw [h1 _ (by omega), r4 k hk]
    show _ = tc_cd (if 7 * r + k < 7 * tc_nr c then tc_mk c (7 * r + k) else _)
    rw [if_pos (by omega)]
theorem sr_U {c : tc_C} {g cost dn : Nat} {dm ds : Nat → Nat} {marks sizes lefts costs lengths ms ss : Nat → Int32} (W : tc_wf c) (U : yw_U c marks sizes lefts costs lengths) (h1 : ∀ j, (j < 7 * tc_nr c ∨ 70 ≤ j) → ms j = marks j ∧ ss j = sizes j) (h2 : ∀ k, k < dn → ms (7 * tc_nr c + k) = marks (70 + k) ∧ ss (7 * tc_nr c + k) = sizes (70 + k))
    (h3 : ∀ k, k < dn → marks (70 + k) = nI (dm k) ∧ sizes (70 + k) = nI (ds k)) :
    yw_U (sr_c c g cost dn dm ds) ms ss (upd lefts (tc_nr c) (nI g)) (upd costs (tc_nr c) (nI cost)) (upd lengths (tc_nr c) (nI dn)) := by
  intro r hr
  by_cases z : r = tc_nr c
  · subst z
    rw [pk_us, pk_us, pk_us, show tc_lf (sr_c c g cost dn dm ds) (tc_nr c) = g from tc_up_s, show tc_rc (sr_c c g cost dn dm ds) (tc_nr c) = cost from tc_up_s, show tc_rn (sr_c c g cost dn dm ds) (tc_nr c) = dn from tc_up_s]
    refine ⟨rfl, rfl, rfl, fun k hk => ?_⟩
    rw [(h2 k hk).1, (h3 k hk).1, (h2 k hk).2, (h3 k hk).2]
    show nI (dm k) = nI (if 7 * tc_nr c + k < 7 * tc_nr c then _ else dm (7 * tc_nr c + k - 7 * tc_nr c)) ∧ nI (ds k) = nI (if 7 * tc_nr c + k < 7 * tc_nr c then _ else ds (7 * tc_nr c + k - 7 * tc_nr c))
    rw [if_neg (by omega), if_neg (by omega), show 7 * tc_nr c + k - 7 * tc_nr c = k by omega]
    exact ⟨rfl, rfl⟩
  · have hlt : r < tc_nr c := by
      have : r < tc_nr c + 1 := hr
      omega
    obtain ⟨r1, r2, r3, r4⟩ := U r hlt
    have h7 := (W.2 r hlt).2.2.2.1
    rw [pk_un z, pk_un z, pk_un z, show tc_lf (sr_c c g cost dn dm ds) r = tc_lf c r from tc_up_n z, show tc_rc (sr_c c g cost dn dm ds) r = tc_rc c r from tc_up_n z, show tc_rn (sr_c c g cost dn dm ds) r = tc_rn c r from tc_up_n z]
    refine ⟨r1, r2, r3, fun k hk => ?_⟩
    have q := h1 (7 * r + k) (Or.inl (by omega))
    rw [q.1, q.2, (r4 k hk).1, (r4 k hk).2]
    show nI (tc_mk c (7 * r + k)) = nI (if 7 * r + k < 7 * tc_nr c then tc_mk c (7 * r + k) else _) ∧ nI (tc_sz c (7 * r + k)) = nI (if 7 * r + k < 7 * tc_nr c then tc_sz c (7 * r + k) else _)
    rw [if_pos (by omega), if_pos (by omega)]
    exact ⟨rfl, rfl⟩
theorem i_vc_rule {k : Nat} {u : SX} {v : SY} (I : i_Rel k u v) (hk : k + 3 ≤ 1536) (v1 : Int32) (v2 : Int32) : wpX_rule (fun r u' => wpY_rule (fun r' v' => r' = r ∧ i_Rel (k + 3) u' v') v v1 v2) u v1 v2 := by
  refine rl_el (P := fun u v => wpX_rule (fun r u' => wpY_rule (fun r' v' => r' = r ∧ i_Rel (k + 3) u' v') v v1 v2) u v1 v2) I ?_
  intro f_drafted f_patternHeight f_rules f_nodes f_treeHeight f_isLaid f_entries f_stateCount f_isWhole f_tooMany f_trialLeast f_covered f_works f_fromStates f_whereFirst f_whereSecond a_draft a_patternBegin a_left a_ruleCost a_ruleSize a_rulePart a_operator a_firstPart a_secondPart a_stack a_treeBegin a_helperOperator a_helperFirst a_helperSecond a_chainFrom a_openParts a_stateCost a_leafState a_leafAdd a_oneState a_oneAdd a_twoState a_twoAdd a_trial a_nodeCost a_nodeWays a_cover a_workEntry a_workNode a_nodeState a_nodeBase g_noted g_depth g_rules g_planted g_trees g_stateCount g_known g_listed b_marks b_sizes b_lefts b_costs b_lengths b_operators b_spans b_least b_ways b_tasks b_list c op sp rt tn D C T H K V
  rcases pk_ix v1 (n := 4) (by decide) with h | h | ⟨j, hj, rfl⟩
  · exact br_t h (br_f (by decide) (br_t h ⟨rfl, rl_in D C T H K V⟩))
  · obtain ⟨h1, h2, h3, h4⟩ := sm_4 h
    exact br_f h1 (br_f h2 (br_f (by decide) (br_f h1 (br_t h4 ⟨rfl, rl_in D C T H K V⟩))))
  · have n0 : ¬ nI j < 0 := nI_pos (by omega)
    have n4 : nI j < 4 := nI_lt (b := 4) (by omega) (by decide)
    have n3 : ¬ 3 < nI j := nI_nlt (a := 3) (by omega) (by decide)
    rcases pk_ix v2 (n := 10) (by decide) with h | h | ⟨q, hq, rfl⟩
    · exact br_f n0 (br_t n4 (br_t rfl (br_t h (br_f n0 (br_f n3 (br_t h ⟨rfl, rl_in D C T H K V⟩))))))
    · obtain ⟨h1, h2⟩ := sm_10 h
      exact br_f n0 (br_t n4 (br_t rfl (br_f h1 (br_f h2 (br_f n0 (br_f n3 (br_f h1 (br_f h2 ⟨rfl, rl_in D C T H K V⟩))))))))
    · have q0 : ¬ nI q < 0 := nI_pos (by omega)
      have q9 : nI q ≤ 9 := nI_le (b := 9) (by omega) (by decide)
      have D0 := D
      obtain ⟨dn, dm, ds, rfl, rfl, rfl, rfl, d5, d6, d7, d8⟩ := D
      have C0 := C
      obtain ⟨rfl, rfl, c3, c4, c5⟩ := C
      have h10 := c3.1
      refine br_f n0 (br_t n4 (br_t rfl (br_f q0 (br_t q9 (pk_eq (tc_ht dm dn) 1 (fun z => pk_eq (tc_nr c) 10 (fun y => ?_) (fun y => ?_)) (fun z => ?_))))))
      · exact br_f n0 (br_f n3 (br_f q0 (br_t q9 (br_t (by rw [z]; rfl) (br_t (by rw [y]; rfl) ⟨rfl, rl_in D0 C0 T H K V⟩)))))
      · obtain ⟨s1, s2⟩ := sr_last d7 z
        have b1 : nI (tc_ht dm dn) = 1 := by rw [z]; rfl
        have b10 : ¬ nI (tc_nr c) = 10 := fun w => y ((nI_eq (b := 10) (by omega) (by decide)).mp w)
        have e69 : (69 : Int32) + nI dn = nI (70 + (dn - 1)) := (yw_l 69 dn rfl).trans (congrArg nI (by omega))
        have i69 : vp_in (69 + nI dn) 77 := by rw [e69]; exact vp_in_nI (by omega) (by decide)
        have em : b_marks (69 + nI dn).toNatClampNeg = nI (dm (dn - 1)) := by rw [e69, nI_clamp (by omega)]; exact (d8 _ (by omega)).2.1
        have hm := (d7 (dn - 1) (by omega)).1
        have i10 : vp_in (nI (tc_nr c)) 10 := vp_in_nI (by omega) (by decide)
        -- both sides store the rule
        have fin : (q = 0 → dm (dn - 1) < 10) → wX_rule_66 (fun r u' => wpY_rule (fun r' v' => r' = r ∧ i_Rel (k + 3) u' v') (nI dn, nI (tc_ht dm dn), nI (tc_nr c), g_planted, g_trees, g_stateCount, g_known, g_listed, b_marks, b_sizes, b_lefts, b_costs, b_lengths, b_operators, b_spans, b_least, b_ways, b_tasks, b_list) (nI j) (nI q)) (nI j) (nI q) (nI dn) (nI (tc_ht dm dn)) (nI (tc_nr c)) f_nodes f_treeHeight f_isLaid f_entries f_stateCount f_isWhole f_tooMany f_trialLeast f_covered f_works f_fromStates f_whereFirst f_whereSecond a_draft a_patternBegin a_left a_ruleCost a_ruleSize a_rulePart a_operator a_firstPart a_secondPart a_stack a_treeBegin a_helperOperator a_helperFirst a_helperSecond a_chainFrom a_openParts a_stateCost a_leafState a_leafAdd a_oneState a_oneAdd a_twoState a_twoAdd a_trial a_nodeCost a_nodeWays a_cover a_workEntry a_workNode a_nodeState a_nodeBase := by
          intro hz
          refine ⟨i10, nm_r (tc_upc (by omega) rfl) ⟨i10, nm_r (tc_upc (by omega) rfl) ⟨i10, nm_r (tc_upc (by omega) rfl) ⟨dn + 1, ?_⟩⟩⟩⟩
          refine sr_101 d5 (by omega) (fun rp h1 h2 => ?_) dn 0 (by omega) a_rulePart (fun _ _ => rfl) (fun q hq => absurd hq (Nat.not_lt_zero _)) (dn + 1) (by omega)
          have ly : ∃ n69, wY_rule_69 (fun r' v' => r' = nI (tc_nr c) ∧ i_Rel (k + 3) (0, 0, nI (tc_nr c + 1), f_nodes, f_treeHeight, 0, f_entries, f_stateCount, f_isWhole, f_tooMany, f_trialLeast, f_covered, f_works, f_fromStates, f_whereFirst, f_whereSecond, a_draft, a_patternBegin, upd a_left (tc_nr c) (nI j), upd a_ruleCost (tc_nr c) (nI q), upd a_ruleSize (tc_nr c) (nI dn), rp, a_operator, a_firstPart, a_secondPart, a_stack, a_treeBegin, a_helperOperator, a_helperFirst, a_helperSecond, a_chainFrom, a_openParts, a_stateCost, a_leafState, a_leafAdd, a_oneState, a_oneAdd, a_twoState, a_twoAdd, a_trial, a_nodeCost, a_nodeWays, a_cover, a_workEntry, a_workNode, a_nodeState, a_nodeBase) v') (nI j) (nI q) (nI dn) (nI (tc_ht dm dn)) (nI (tc_nr c)) g_planted g_trees g_stateCount g_known g_listed n69 0 b_marks b_sizes b_lefts b_costs b_lengths b_operators b_spans b_least b_ways b_tasks b_list := by
            refine ⟨dn + 1, sr_69 d5 (by omega) (fun ms ss h3 h4 => ⟨rfl, ?_⟩) dn 0 (by omega) b_marks b_sizes (fun _ _ => ⟨rfl, rfl⟩) (fun q hq => absurd hq (Nat.not_lt_zero _)) (dn + 1) (by omega)⟩
            refine rl_in (c := sr_c c j q dn dm ds) ⟨0, fun _ => 0, fun _ => 0, rfl, rfl, rfl, rfl, by omega, Nat.zero_le _, fun k hk => absurd hk (Nat.not_lt_zero _), fun k hk => absurd hk (Nat.not_lt_zero _)⟩ ⟨rfl, rfl, sr_wf c3 (by omega) hj (by omega) s1 d5 d7 z hz, sr_R c3 c4 h1 h2 (fun k hk => (d8 k hk).1), sr_U c3 c5 h3 h4 (fun k hk => (d8 k hk).2)⟩ T (Or.inl rfl) (Or.inl rfl) (Or.inr ⟨rfl, Or.inl rfl⟩)
          refine br_f n0 (br_f n3 (br_f q0 (br_t q9 (br_t b1 (br_f b10 ⟨i69, pk_le (dm (dn - 1)) 9 (fun _ => ly) (fun w => br_f (fun w0 => ?_) ly) em rfl (by omega)⟩)))))
          have := hz ((nI_eq (b := 0) (by omega) (by decide)).mp w0)
          omega
        -- the refused chain
        have ref : q = 0 → 10 ≤ dm (dn - 1) → wpY_rule (fun r' v' => r' = -1 ∧ i_Rel (k + 3) (nI dn, nI (tc_ht dm dn), nI (tc_nr c), f_nodes, f_treeHeight, f_isLaid, f_entries, f_stateCount, f_isWhole, f_tooMany, f_trialLeast, f_covered, f_works, f_fromStates, f_whereFirst, f_whereSecond, a_draft, a_patternBegin, a_left, a_ruleCost, a_ruleSize, a_rulePart, a_operator, a_firstPart, a_secondPart, a_stack, a_treeBegin, a_helperOperator, a_helperFirst, a_helperSecond, a_chainFrom, a_openParts, a_stateCost, a_leafState, a_leafAdd, a_oneState, a_oneAdd, a_twoState, a_twoAdd, a_trial, a_nodeCost, a_nodeWays, a_cover, a_workEntry, a_workNode, a_nodeState, a_nodeBase) v') (nI dn, nI (tc_ht dm dn), nI (tc_nr c), g_planted, g_trees, g_stateCount, g_known, g_listed, b_marks, b_sizes, b_lefts, b_costs, b_lengths, b_operators, b_spans, b_least, b_ways, b_tasks, b_list) (nI j) (nI q) := by
          intro w1 w2
          exact br_f n0 (br_f n3 (br_f q0 (br_t q9 (br_t b1 (br_f b10 ⟨i69, pk_le (dm (dn - 1)) 9 (fun _ => by omega) (fun w => br_t (by rw [w1]; rfl) ⟨rfl, rl_in D0 C0 T H K V⟩) em rfl (by omega)⟩)))))
        refine pk_eq q 0 (fun w => br_c (fun w' => fin (fun _ => ?_)) (fun w' => pk_eq dn 1 (fun x => ref w ?_) (fun x => fin (fun _ => ?_)))) (fun w => fin (fun w' => absurd w' w))
        · rcases hm with hm | hm
          · omega
          · exfalso
            have := s2 hm.1
            subst this
            rw [(d8 0 (by omega)).1] at w'
            exact absurd w' (Int32.not_le.mpr (tc_cd_go _ hm.2 hm.1).1)
        · rcases hm with hm | hm
          · exfalso
            subst x
            rw [(d8 0 (by omega)).1, tc_cd_op (show dm 0 < 10 by simp only [Nat.sub_self] at hm; omega)] at w'
            exact w' (nI_pos' (by simp only [Nat.sub_self] at hm; omega))
          · exact hm.1
        · rcases hm with hm | hm
          · omega
          · exact absurd (s2 hm.1) x
      · exact br_f n0 (br_f n3 (br_f q0 (br_t q9 (br_f (fun w => z ((nI_eq (b := 1) (by omega) (by decide)).mp w)) ⟨rfl, rl_in D0 C0 T H K V⟩))))
theorem i_vc_unrule {k : Nat} {u : SX} {v : SY} (I : i_Rel k u v) (hk : k + 3 ≤ 1536) : wpX_unrule (fun r u' => wpY_unrule (fun r' v' => r' = r ∧ i_Rel (k + 3) u' v') v) u := by
  refine rl_el (P := fun u v => wpX_unrule (fun r u' => wpY_unrule (fun r' v' => r' = r ∧ i_Rel (k + 3) u' v') v) u) I ?_
  intro f_drafted f_patternHeight f_rules f_nodes f_treeHeight f_isLaid f_entries f_stateCount f_isWhole f_tooMany f_trialLeast f_covered f_works f_fromStates f_whereFirst f_whereSecond a_draft a_patternBegin a_left a_ruleCost a_ruleSize a_rulePart a_operator a_firstPart a_secondPart a_stack a_treeBegin a_helperOperator a_helperFirst a_helperSecond a_chainFrom a_openParts a_stateCost a_leafState a_leafAdd a_oneState a_oneAdd a_twoState a_twoAdd a_trial a_nodeCost a_nodeWays a_cover a_workEntry a_workNode a_nodeState a_nodeBase g_noted g_depth g_rules g_planted g_trees g_stateCount g_known g_listed b_marks b_sizes b_lefts b_costs b_lengths b_operators b_spans b_least b_ways b_tasks b_list c op sp rt tn D C T H K V
  have C0 := C
  obtain ⟨rfl, rfl, c3, c4, c5⟩ := C
  have h10 := c3.1
  refine pk_eq (tc_nr c) 0 (fun z => ?_) (fun z => ?_)
  · exact br_t (by rw [z]; rfl) ⟨rfl, rl_in D C0 T H K V⟩
  · obtain ⟨n, en⟩ : ∃ n, tc_nr c = n + 1 := ⟨tc_nr c - 1, by omega⟩
    have e1 : nI (tc_nr c) - 1 = nI n := by rw [en, nI_pred]
    have n0 : ¬ nI (tc_nr c) = 0 := nI_ne0 (by omega) (by omega)
    refine nm_r e1 (br_f n0 (nm_r e1 ⟨rfl, ?_⟩))
    refine rl_in (c := (n, c.2)) D ⟨rfl, rfl, ⟨show n ≤ 10 by omega, fun r hr => ?_⟩, fun r hr => ?_, fun r hr => ?_⟩ T (Or.inl rfl) (Or.inl rfl) (Or.inr ⟨rfl, Or.inl rfl⟩)
    · have : r < n := hr
      exact c3.2 r (by omega)
    · have : r < n := hr
      exact c4 r (by omega)
    · have : r < n := hr
      exact c5 r (by omega)
theorem i_vc_fell {k : Nat} {u : SX} {v : SY} (I : i_Rel k u v) (hk : k + 3 ≤ 1536) : wpX_fell (fun r u' => wpY_fell (fun r' v' => r' = r ∧ i_Rel (k + 3) u' v') v) u := by
  refine rl_el (P := fun u v => wpX_fell (fun r u' => wpY_fell (fun r' v' => r' = r ∧ i_Rel (k + 3) u' v') v) u) I ?_
  intro f_drafted f_patternHeight f_rules f_nodes f_treeHeight f_isLaid f_entries f_stateCount f_isWhole f_tooMany f_trialLeast f_covered f_works f_fromStates f_whereFirst f_whereSecond a_draft a_patternBegin a_left a_ruleCost a_ruleSize a_rulePart a_operator a_firstPart a_secondPart a_stack a_treeBegin a_helperOperator a_helperFirst a_helperSecond a_chainFrom a_openParts a_stateCost a_leafState a_leafAdd a_oneState a_oneAdd a_twoState a_twoAdd a_trial a_nodeCost a_nodeWays a_cover a_workEntry a_workNode a_nodeState a_nodeBase g_noted g_depth g_rules g_planted g_trees g_stateCount g_known g_listed b_marks b_sizes b_lefts b_costs b_lengths b_operators b_spans b_least b_ways b_tasks b_list c op sp rt tn D C T H K V
  obtain ⟨t1, t2, t3, t4, -⟩ := T
  exact ⟨t4.trans t2.symm, rl_in D C (op := fun _ => 0) (sp := fun _ => 0) (rt := fun _ => 0) (tn := 0) ⟨rfl, rfl, rfl, rfl, ⟨by omega, fun k hk => absurd hk (Nat.not_lt_zero _), fun k hk => absurd hk (Nat.not_lt_zero _)⟩, Nat.zero_le _, tc_fo_0, fun k hk => absurd hk (Nat.not_lt_zero _), fun k hk => absurd hk (Nat.not_lt_zero _), fun k hk => absurd hk (Nat.not_lt_zero _)⟩ H K V⟩
/-- the top tree -/
theorem rt_top {sp rt : Nat → Nat} {tn h : Nat} (F : tc_fo sp tn (h + 1) rt) : rt h + 1 = tn ∧ 1 ≤ sp (rt h) ∧ rt h + 1 = tc_bg rt h + sp (rt h) := ⟨F.2.1, F.1 h (by omega)⟩
theorem i_vc_size {k : Nat} {u : SX} {v : SY} (I : i_Rel k u v) (hk : k + 3 ≤ 1536) : wpX_size (fun r => wpY_size (fun r' => r' = r ∧ i_Rel (k + 3) u v) v) u := by
  refine rl_el (P := fun u v => wpX_size (fun r => wpY_size (fun r' => r' = r ∧ i_Rel (k + 3) u v) v) u) I ?_
  intro f_drafted f_patternHeight f_rules f_nodes f_treeHeight f_isLaid f_entries f_stateCount f_isWhole f_tooMany f_trialLeast f_covered f_works f_fromStates f_whereFirst f_whereSecond a_draft a_patternBegin a_left a_ruleCost a_ruleSize a_rulePart a_operator a_firstPart a_secondPart a_stack a_treeBegin a_helperOperator a_helperFirst a_helperSecond a_chainFrom a_openParts a_stateCost a_leafState a_leafAdd a_oneState a_oneAdd a_twoState a_twoAdd a_trial a_nodeCost a_nodeWays a_cover a_workEntry a_workNode a_nodeState a_nodeBase g_noted g_depth g_rules g_planted g_trees g_stateCount g_known g_listed b_marks b_sizes b_lefts b_costs b_lengths b_operators b_spans b_least b_ways b_tasks b_list c op sp rt tn D C T H K V
  have T0 := T
  obtain ⟨rfl, rfl, rfl, rfl, t5, t6, t7, t8, t9, t10⟩ := T
  have h24 := t5.1
  refine pk_eq (tc_ht op tn) 0 (fun z => ?_) (fun z => ?_)
  · exact br_t (by rw [z]; rfl) ⟨rfl, rl_in D C T0 H K V⟩
  · obtain ⟨h, eh⟩ : ∃ h, tc_ht op tn = h + 1 := ⟨tc_ht op tn - 1, by omega⟩
    have e1 : nI (tc_ht op tn) - 1 = nI h := by rw [eh, nI_pred]
    have t7' := t7
    rw [eh] at t7'
    obtain ⟨r1, r2, r3⟩ := rt_top t7'
    have i1 : vp_in (nI (tc_ht op tn) - 1) 8 := by rw [e1]; exact vp_in_nI (by omega) (by decide)
    have e2 : nI tn - 1 = nI (rt h) := by rw [← r1, nI_pred]
    have n0 : ¬ nI (tc_ht op tn) = 0 := nI_ne0 (by omega) (by omega)
    refine ⟨i1, i1, br_f n0 ⟨by rw [e2]; exact vp_in_nI (by omega) (by decide), ?_, rl_in D C T0 H K V⟩⟩
    rw [e1, e2, nI_clamp (by omega), nI_clamp (by omega), (t10 h (by omega)).1, (t10 h (by omega)).2, (t9 (rt h) (by omega)).2, pk_sub (by omega), nI_1]
    exact congrArg nI (by omega)
end
section
/-! tree -/
section
variable {f_drafted f_patternHeight f_rules f_nodes f_treeHeight f_isLaid f_entries f_stateCount f_isWhole f_tooMany f_trialLeast f_covered f_works f_fromStates f_whereFirst f_whereSecond : Int32} {a_draft a_patternBegin a_left a_ruleCost a_ruleSize a_rulePart a_operator a_firstPart a_secondPart a_stack a_treeBegin a_helperOperator a_helperFirst a_helperSecond a_chainFrom a_openParts a_stateCost a_leafState a_leafAdd a_oneState a_oneAdd a_twoState a_twoAdd a_trial a_nodeCost a_nodeWays a_cover a_workEntry a_workNode a_nodeState a_nodeBase : Nat → Int32} {g_noted g_depth g_rules g_planted g_trees g_stateCount g_known g_listed : Int32} {b_marks b_sizes b_lefts b_costs b_lengths b_operators b_spans b_least b_ways b_tasks b_list : Nat → Int32}
theorem st_58 {post : Int32 → SY → Prop} {a dn h : Nat} {x : Int32} {ds : Nat → Nat} (ha : a ≤ 2) (hah : a ≤ h) (hh : h ≤ 8) (hd : dn < 24) (hS : ∀ k, k < dn → b_spans k = nI (ds k)) (l1 : 1 ≤ a → 1 ≤ dn) (l2 : a = 2 → ds (dn - 1) + 1 ≤ dn)
    (K : post (nI (h + 1 - a)) (g_noted, g_depth, g_rules, nI (dn + 1), nI (h + 1 - a), g_stateCount, g_known, g_listed, b_marks, b_sizes, b_lefts, b_costs, b_lengths, upd b_operators dn x, upd b_spans dn (nI (tc_sq ds a dn)), b_least, b_ways, b_tasks, b_list)) : ∃ n, wY_tree_58 post x (nI a) g_noted g_depth g_rules (nI dn) (nI h) g_stateCount g_known g_listed b_marks b_sizes b_lefts b_costs b_lengths b_operators b_spans b_least b_ways b_tasks b_list n 1 0 := by
  have i24 : vp_in (nI dn) 24 := vp_in_nI hd (by decide)
  have fin : ∀ sz n, sz = tc_sq ds a dn → wY_tree_58 post x (nI a) g_noted g_depth g_rules (nI dn) (nI h) g_stateCount g_known g_listed b_marks b_sizes b_lefts b_costs b_lengths b_operators b_spans b_least b_ways b_tasks b_list (n + 1) (nI sz) (nI a) := by
    intro sz n es
    have e1 : nI h + 1 - nI a = nI (h + 1 - a) := by rw [nI_1, pk_sub (by omega)]
    refine pk_le a a (fun _ => ⟨i24, nm_r (tc_upc (by omega) rfl) ⟨i24, nm_r (tc_upc (y := nI (tc_sq ds a dn)) (by omega) (by rw [es])) (nm_r (nI_1 dn) (nm_r e1 K))⟩⟩) (fun z => by omega)
  have stp : ∀ sz i n, sz ≤ dn → 1 ≤ sz → i < a → wY_tree_58 post x (nI a) g_noted g_depth g_rules (nI dn) (nI h) g_stateCount g_known g_listed b_marks b_sizes b_lefts b_costs b_lengths b_operators b_spans b_least b_ways b_tasks b_list n (nI (sz + ds (dn - sz))) (nI (i + 1)) → wY_tree_58 post x (nI a) g_noted g_depth g_rules (nI dn) (nI h) g_stateCount g_known g_listed b_marks b_sizes b_lefts b_costs b_lengths b_operators b_spans b_least b_ways b_tasks b_list (n + 1) (nI sz) (nI i) := by
    intro sz i n h1 h0 h2 hk
    have e1 : nI dn - nI sz = nI (dn - sz) := pk_sub h1
    refine pk_le a i (fun z => by omega) (fun _ => ⟨pk_in (dn - sz) 24 (by omega) e1, nm_r (e' := nI (sz + ds (dn - sz))) ?_ (nm_r (nI_1 i) hk)⟩)
    rw [e1, nI_clamp (by omega), hS _ (by omega), nI_add]
  by_cases z : a = 0
  · subst z
    exact ⟨1, fin 1 0 rfl⟩
  · by_cases y : a = 1
    · subst y
      have := l1 (by omega)
      exact ⟨2, stp 1 0 1 (by omega) (by omega) (by omega) (fin _ 0 rfl)⟩
    · have e : a = 2 := by omega
      subst e
      have := l1 (by omega)
      have h2 := l2 rfl
      refine ⟨3, stp 1 0 2 (by omega) (by omega) (by omega) (stp _ 1 1 (by omega) (by omega) (by omega) (fin _ 0 ?_))⟩
      unfold tc_sq
      rw [if_neg (by decide), if_neg (by decide), show dn - (1 + ds (dn - 1)) = dn - 1 - ds (dn - 1) by omega]
      omega
theorem st_87 {post : Int32 → SX → Prop} {a dn h : Nat} {zf : Int32} (ha : a ≤ 2) (hah : a ≤ h) (hh : h - a ≤ 7) (h8 : h ≤ 8) (hd : dn < 24)
    (K : post (nI (h + 1 - a)) (f_drafted, f_patternHeight, f_rules, nI (dn + 1), nI (h + 1 - a), f_isLaid, f_entries, f_stateCount, f_isWhole, f_tooMany, f_trialLeast, f_covered, f_works, f_fromStates, f_whereFirst, f_whereSecond, a_draft, a_patternBegin, a_left, a_ruleCost, a_ruleSize, a_rulePart, a_operator, upd a_firstPart dn zf, upd a_secondPart dn (if a ≤ 1 then -1 else a_stack (h - 1)), upd a_stack (h - a) (nI dn), (if a = 0 then upd a_treeBegin h (nI dn) else a_treeBegin), a_helperOperator, a_helperFirst, a_helperSecond, a_chainFrom, a_openParts, a_stateCost, a_leafState, a_leafAdd, a_oneState, a_oneAdd, a_twoState, a_twoAdd, a_trial, a_nodeCost, a_nodeWays, a_cover, a_workEntry, a_workNode, a_nodeState, a_nodeBase)) :
    wX_tree_87 post (nI a) zf (nI dn) f_drafted f_patternHeight f_rules (nI dn) (nI h) f_isLaid f_entries f_stateCount f_isWhole f_tooMany f_trialLeast f_covered f_works f_fromStates f_whereFirst f_whereSecond a_draft a_patternBegin a_left a_ruleCost a_ruleSize a_rulePart a_operator a_firstPart a_secondPart a_stack a_treeBegin a_helperOperator a_helperFirst a_helperSecond a_chainFrom a_openParts a_stateCost a_leafState a_leafAdd a_oneState a_oneAdd a_twoState a_twoAdd a_trial a_nodeCost a_nodeWays a_cover a_workEntry a_workNode a_nodeState a_nodeBase := by
  have i24 : vp_in (nI dn) 24 := vp_in_nI hd (by decide)
  have e1 : nI h - nI a + 1 = nI (h + 1 - a) := by rw [pk_sub hah, nI_1]; exact congrArg nI (by omega)
  have e2 : nI (h + 1 - a) - 1 = nI (h - a) := by rw [show h + 1 - a = (h - a) + 1 by omega, nI_pred]
  have l134 : ∀ tb : Nat → Int32, tb = (if a = 0 then upd a_treeBegin h (nI dn) else a_treeBegin) → wX_tree_134 post (nI a) f_drafted f_patternHeight f_rules (nI dn) (nI h) f_isLaid f_entries f_stateCount f_isWhole f_tooMany f_trialLeast f_covered f_works f_fromStates f_whereFirst f_whereSecond a_draft a_patternBegin a_left a_ruleCost a_ruleSize a_rulePart a_operator (upd a_firstPart dn zf) (upd a_secondPart dn (if a ≤ 1 then -1 else a_stack (h - 1))) a_stack tb a_helperOperator a_helperFirst a_helperSecond a_chainFrom a_openParts a_stateCost a_leafState a_leafAdd a_oneState a_oneAdd a_twoState a_twoAdd a_trial a_nodeCost a_nodeWays a_cover a_workEntry a_workNode a_nodeState a_nodeBase := by
    intro tb et
    subst et
    exact nm_r e1 ⟨by rw [e2]; exact vp_in_nI (by omega) (by decide), nm_r (e' := upd a_stack (h - a) (nI dn)) (by rw [e2, nI_clamp (by omega)]) (nm_r (nI_1 dn) K)⟩
  have l116 : ∀ zs : Int32, zs = (if a ≤ 1 then -1 else a_stack (h - 1)) → wX_tree_116 post (nI a) zs (nI dn) f_drafted f_patternHeight f_rules (nI dn) (nI h) f_isLaid f_entries f_stateCount f_isWhole f_tooMany f_trialLeast f_covered f_works f_fromStates f_whereFirst f_whereSecond a_draft a_patternBegin a_left a_ruleCost a_ruleSize a_rulePart a_operator (upd a_firstPart dn zf) a_secondPart a_stack a_treeBegin a_helperOperator a_helperFirst a_helperSecond a_chainFrom a_openParts a_stateCost a_leafState a_leafAdd a_oneState a_oneAdd a_twoState a_twoAdd a_trial a_nodeCost a_nodeWays a_cover a_workEntry a_workNode a_nodeState a_nodeBase := by
    intro zs ez
    subst ez
    refine ⟨i24, nm_r (tc_upc (by omega) rfl) (pk_eq a 0 (fun z => ⟨vp_in_nI (by omega) (by decide), nm_r (tc_upc (by omega) rfl) (l134 _ ?_)⟩) (fun z => l134 _ ?_))⟩
    · rw [if_pos z]
    · rw [if_neg z]
  refine ⟨i24, nm_r (tc_upc (by omega) rfl) (pk_le a 1 (fun z => l116 _ ?_) (fun z => ?_))⟩
  · rw [if_pos z]
  · have e3 : nI h - 1 = nI (h - 1) := pk_sub (a := h) (b := 1) (by omega)
    exact ⟨pk_in (h - 1) 8 (by omega) e3, l116 _ (by rw [if_neg (by omega), e3, nI_clamp (by omega)])⟩
theorem rl_T_push {op sp rt : Nat → Nat} {tn j a : Nat} {zf : Int32} (hj : j < 6) (aj : tc_ar j = a) (ha : a ≤ tc_ht op tn) (h24 : tn < 24) (h8 : tc_ht op tn + 1 - a ≤ 8)
    (T : rl_T op sp rt tn (nI tn) (nI (tc_ht op tn)) (nI tn) (nI (tc_ht op tn)) a_operator a_firstPart a_secondPart a_stack a_treeBegin b_operators b_spans) (hz : zf = (if a = 0 then -1 else a_stack (tc_ht op tn - a))) :
    rl_T (tc_up op tn j) (tc_up sp tn (tc_sq sp a tn)) (tc_up rt (tc_ht op tn - a) tn) (tn + 1) (nI (tn + 1)) (nI (tc_ht op tn + 1 - a)) (nI (tn + 1)) (nI (tc_ht op tn + 1 - a)) (upd a_operator tn (nI j)) (upd a_firstPart tn zf) (upd a_secondPart tn (if a ≤ 1 then -1 else a_stack (tc_ht op tn - 1)))
      (upd a_stack (tc_ht op tn - a) (nI tn)) (if a = 0 then upd a_treeBegin (tc_ht op tn) (nI tn) else a_treeBegin) (upd b_operators tn (nI j)) (upd b_spans tn (nI (tc_sq sp a tn))) := by
  obtain ⟨-, -, -, -, t5, t6, t7, t8, t9, t10⟩ := T
  subst aj
  obtain ⟨q1, q2⟩ := tc_pt_push t5.2.1 (Or.inl hj) ha
  have a2 : tc_ar j ≤ 2 := tc_ar2 (Or.inl hj)
  have aj : tc_ar j = j / 2 := if_pos (by omega)
  have ht := tc_top t5.2.1 ha a2
  have es : ∀ n, n < tn → tc_up sp tn (tc_sq sp (tc_ar j) tn) n = sp n := fun n hn => tc_up_n (by omega)
  have eo : ∀ n, n < tn → tc_up op tn j n = op n := fun n hn => tc_up_n (by omega)
  have ex : ∀ n, n < tn → tt_x (tc_up op tn j) (tc_up sp tn (tc_sq sp (tc_ar j) tn)) n = tt_x op sp n := fun n hn => by
    unfold tt_x
    rw [eo n hn, es (n - 1) (by omega)]
  refine ⟨rfl, by rw [q2], rfl, by rw [q2], ⟨by omega, q1, fun n hn => ?_⟩, by rw [q2]; exact h8, ?_, fun n hn => ?_, fun n hn => ?_, ?_⟩
  · by_cases z : n = tn
    · rw [z, tc_up_s]; exact hj
    · rw [eo n (by omega)]; exact t5.2.2 n (by omega)
  · rw [q2]
    refine tc_fo_step (tc_fo_ext t7 es) ha a2 ?_
    rw [tc_up_s]
    exact (tc_sq_ext ht.1 ht.2 a2 es).symm
  · by_cases z : n = tn
    · subst z
      rw [pk_us, pk_us, pk_us, tc_up_s]
      refine ⟨rfl, ?_, ?_⟩
      · rw [hz]
        by_cases y : j < 2
        · rw [if_pos (by omega), if_pos y]
        · rw [if_neg (by omega), if_neg y, (t10 _ (by omega)).1]
          have h1 := ht.1 (by omega)
          unfold tt_x
          rw [tc_up_s, es (n - 1) (by omega)]
          by_cases x : j < 4
          · obtain ⟨h', eh⟩ : ∃ h', tc_ht op n = h' + 1 := ⟨tc_ht op n - 1, by omega⟩
            rw [eh] at t7 ⊢
            have e1 : rt h' + 1 = n := t7.2.1
            rw [if_pos x, show h' + 1 - tc_ar j = h' by omega]
            exact congrArg nI (by omega)
          · obtain ⟨h', eh⟩ : ∃ h', tc_ht op n = h' + 2 := ⟨tc_ht op n - 2, by omega⟩
            rw [eh] at t7 ⊢
            have e1 : rt (h' + 1) + 1 = n := t7.2.1
            have e2 : rt (h' + 1) + 1 = rt h' + 1 + sp (rt (h' + 1)) := (t7.1 (h' + 1) (by omega)).2
            rw [if_neg x, show h' + 2 - tc_ar j = h' by omega, show n - 1 = rt (h' + 1) by omega]
            exact congrArg nI (by omega)
      · by_cases x : j < 4
        · rw [if_pos (by omega), if_pos x]
        · rw [if_neg (by omega), if_neg x, (t10 _ (by omega)).1]
          obtain ⟨h', eh⟩ : ∃ h', tc_ht op n = h' + 1 := ⟨tc_ht op n - 1, by omega⟩
          rw [eh] at t7 ⊢
          have e1 : rt h' + 1 = n := t7.2.1
          rw [show h' + 1 - 1 = h' from rfl]
          exact congrArg nI (by omega)
    · rw [pk_un z, pk_un z, pk_un z, eo n (by omega), ex n (by omega)]
      exact t8 n (by omega)
  · by_cases z : n = tn
    · rw [z, pk_us, pk_us, tc_up_s, tc_up_s]; exact ⟨rfl, rfl⟩
    · rw [pk_un z, pk_un z, eo n (by omega), es n (by omega)]; exact t9 n (by omega)
  · intro i hi
    rw [q2] at hi
    by_cases z : i = tc_ht op tn - tc_ar j
    · subst z
      rw [pk_us, tc_up_s, tc_bg_up _ (Nat.le_refl _)]
      refine ⟨rfl, ?_⟩
      by_cases y : tc_ar j = 0
      · rw [if_pos y, y, Nat.sub_zero, pk_us, t7.2.1]
      · rw [if_neg y]; exact (t10 _ (by omega)).2
    · rw [pk_un z, tc_up_n z, tc_bg_up i (by omega)]
      refine ⟨(t10 i (by omega)).1, ?_⟩
      by_cases y : tc_ar j = 0
      · rw [if_pos y, pk_un (by omega)]; exact (t10 i (by omega)).2
      · rw [if_neg y]; exact (t10 i (by omega)).2
end
theorem i_vc_tree {k : Nat} {u : SX} {v : SY} (I : i_Rel k u v) (hk : k + 3 ≤ 1536) (v1 : Int32) : wpX_tree (fun r u' => wpY_tree (fun r' v' => r' = r ∧ i_Rel (k + 3) u' v') v v1) u v1 := by
  refine rl_el (P := fun u v => wpX_tree (fun r u' => wpY_tree (fun r' v' => r' = r ∧ i_Rel (k + 3) u' v') v v1) u v1) I ?_
  intro f_drafted f_patternHeight f_rules f_nodes f_treeHeight f_isLaid f_entries f_stateCount f_isWhole f_tooMany f_trialLeast f_covered f_works f_fromStates f_whereFirst f_whereSecond a_draft a_patternBegin a_left a_ruleCost a_ruleSize a_rulePart a_operator a_firstPart a_secondPart a_stack a_treeBegin a_helperOperator a_helperFirst a_helperSecond a_chainFrom a_openParts a_stateCost a_leafState a_leafAdd a_oneState a_oneAdd a_twoState a_twoAdd a_trial a_nodeCost a_nodeWays a_cover a_workEntry a_workNode a_nodeState a_nodeBase g_noted g_depth g_rules g_planted g_trees g_stateCount g_known g_listed b_marks b_sizes b_lefts b_costs b_lengths b_operators b_spans b_least b_ways b_tasks b_list c op sp rt tn D C T H K V
  rcases pk_ix v1 (n := 6) (by decide) with h | h | ⟨j, hj, rfl⟩
  · exact br_t h (br_f (by decide) (br_t h ⟨rfl, rl_in D C T H K V⟩))
  · obtain ⟨h1, h2, h3⟩ := sm_6 h
    exact br_f h1 (br_f h2 (br_f (by decide) (br_f h1 (br_f h3 ⟨rfl, rl_in D C T H K V⟩))))
  · have T0 := T
    obtain ⟨rfl, rfl, rfl, rfl, t5, t6, t7, t8, t9, t10⟩ := T
    have h24 := t5.1
    have n0 : ¬ nI j < 0 := nI_pos (by omega)
    have n4 : nI j < 6 := nI_lt (b := 6) (by omega) (by decide)
    have n3 : nI j ≤ 5 := nI_le (b := 5) (by omega) (by decide)
    have aj : tc_ar j = j / 2 := if_pos (by omega)
    have ey : nI j / 2 = nI (j / 2) := pk_div (d := 2) (by omega) (by decide) (by decide)
    have yar : ∀ (post : Int32 → Prop), post (nI (j / 2)) → wpY_partsOf post (g_noted, g_depth, g_rules, nI tn, nI (tc_ht op tn), g_stateCount, g_known, g_listed, b_marks, b_sizes, b_lefts, b_costs, b_lengths, b_operators, b_spans, b_least, b_ways, b_tasks, b_list) (nI j) := fun post hp => ⟨by decide, by rw [ey]; exact hp⟩
    refine br_f n0 (br_t n4 (br_t rfl (xs_arity (by omega) (pk_le (j / 2) (tc_ht op tn) (fun z => ?_) (fun z => ?_)))))
    · have es : nI (tc_ht op tn) - nI (j / 2) = nI (tc_ht op tn - j / 2) := pk_sub z
      have ed : nI (tc_ht op tn) + 1 - nI (j / 2) = nI (tc_ht op tn + 1 - j / 2) := by rw [nI_1, pk_sub (by omega)]
      refine pk_eq (tc_ht op tn - j / 2) 8 (fun y => ?_) (fun y => pk_eq tn 24 (fun x => ?_) (fun x => ?_)) es
      · refine br_f n0 (br_t n3 (yar _ (br_t (nI_le z (by omega)) (br_t ?_ ⟨rfl, rl_in D C T0 H K V⟩))))
        rw [ed]; exact nI_lt (a := 8) (by omega) (by omega)
      · refine br_f n0 (br_t n3 (yar _ (br_t (nI_le z (by omega)) (br_f ?_ (br_t (by rw [x]; rfl) ⟨rfl, rl_in D C T0 H K V⟩)))))
        rw [ed]; exact nI_nlt (a := 8) (by omega) (by omega)
      · obtain ⟨q1, q2⟩ := tc_top t5.2.1 (a := j / 2) z (by omega)
        have fin : ∀ zf : Int32, zf = (if j / 2 = 0 then -1 else a_stack (tc_ht op tn - j / 2)) → wX_tree_87 (fun r u' => wpY_tree (fun r' v' => r' = r ∧ i_Rel (k + 3) u' v') (g_noted, g_depth, g_rules, nI tn, nI (tc_ht op tn), g_stateCount, g_known, g_listed, b_marks, b_sizes, b_lefts, b_costs, b_lengths, b_operators, b_spans, b_least, b_ways, b_tasks, b_list) (nI j)) (nI (j / 2)) zf (nI tn) f_drafted f_patternHeight f_rules (nI tn) (nI (tc_ht op tn)) f_isLaid f_entries f_stateCount f_isWhole f_tooMany f_trialLeast f_covered f_works f_fromStates f_whereFirst f_whereSecond a_draft a_patternBegin a_left a_ruleCost a_ruleSize a_rulePart (upd a_operator tn (nI j)) a_firstPart a_secondPart a_stack a_treeBegin a_helperOperator a_helperFirst a_helperSecond a_chainFrom a_openParts a_stateCost a_leafState a_leafAdd a_oneState a_oneAdd a_twoState a_twoAdd a_trial a_nodeCost a_nodeWays a_cover a_workEntry a_workNode a_nodeState a_nodeBase := by
          intro zf hz
          refine st_87 (by omega) z (by omega) t6 (by omega) ?_
          refine br_f n0 (br_t n3 (yar _ (br_t (nI_le z (by omega)) (br_f ?_ (br_f (fun q => x ((nI_eq (b := 24) (by omega) (by decide)).mp q)) ?_)))))
          · rw [ed]; exact nI_nlt (a := 8) (by omega) (by omega)
          · exact st_58 (ds := sp) (by omega) z t6 (by omega) (fun q hq => (t9 q hq).2) q1 q2 ⟨rfl, rl_in D C (rl_T_push hj aj z (by omega) (by omega) T0 hz) H K V⟩
        refine ⟨vp_in_nI (by omega) (by decide), nm_r (tc_upc (by omega) rfl) (pk_le (j / 2) 0 (fun w => fin _ ?_) (fun w => ⟨pk_in (tc_ht op tn - j / 2) 8 (by omega) es, fin _ ?_⟩))⟩
        · rw [if_pos (by omega)]
        · rw [if_neg (by omega), es, nI_clamp (by omega)]
    · exact br_f n0 (br_t n3 (yar _ (br_f (nI_ge z (by omega)) ⟨rfl, rl_in D C T0 H K V⟩)))
end
section
/-! states, covering, cost, goals -/
section
variable {f_drafted f_patternHeight f_rules f_nodes f_treeHeight f_isLaid f_entries f_stateCount f_isWhole f_tooMany f_trialLeast f_covered f_works f_fromStates f_whereFirst f_whereSecond : Int32} {a_draft a_patternBegin a_left a_ruleCost a_ruleSize a_rulePart a_operator a_firstPart a_secondPart a_stack a_treeBegin a_helperOperator a_helperFirst a_helperSecond a_chainFrom a_openParts a_stateCost a_leafState a_leafAdd a_oneState a_oneAdd a_twoState a_twoAdd a_trial a_nodeCost a_nodeWays a_cover a_workEntry a_workNode a_nodeState a_nodeBase : Nat → Int32} {g_noted g_depth g_rules g_planted g_trees g_stateCount g_known g_listed : Int32} {b_marks b_sizes b_lefts b_costs b_lengths b_operators b_spans b_least b_ways b_tasks b_list : Nat → Int32} {c : tc_C} {op sp rt : Nat → Nat} {tn : Nat}
theorem sf_cmp {sc sy : Nat} {sv yv : Nat → Nat → Nat} {tm : Int32} {SC L : Nat → Int32} (B : xb_B c sc sv tm SC) (h : tm = 1 ∨ tn_K c sc sv) (B' : yb_B c sy yv L) (h' : sy = 21 ∨ tn_K c sy yv) :
    (tm = 1 ∧ sy = 21) ∨ (tm = 0 ∧ sy = sc ∧ sc ≤ 20 ∧ ∀ P : (Nat → Nat) → Prop, tn_ct (fun s => P (sv s)) sc = tn_ct (fun s => P (yv s)) sy) := by
  obtain ⟨b1, b2, b3, b4, b5⟩ := B
  obtain ⟨y1, y2, y3⟩ := B'
  rcases b5 with b5 | ⟨b5, b6, w, b7, b8⟩
  · rcases h with h | h
    · rw [b5] at h; exact absurd h (by decide)
    · obtain ⟨q1, q2⟩ := tn_fin b2 y2 b3 (fun s hs => (y3 s hs).1) b1 h h'
      exact Or.inr ⟨b5, q1, b1, q2⟩
  · subst b6
    exact Or.inl ⟨b5, tn_fin2 b2 b3 b7 b8 y1 h'⟩
theorem sf_y (W : tc_wf c) (U : yw_U c b_marks b_sizes b_lefts b_costs b_lengths) {post : SY → Prop} (K : rl_K c g_known g_stateCount b_least) (h : ∀ (sy : Nat) (yv : Nat → Nat → Nat) (L : Nat → Int32), yb_B c sy yv L → (sy = 21 ∨ tn_K c sy yv) → post (g_noted, g_depth, nI (tc_nr c), g_planted, g_trees, nI sy, 1, g_listed, b_marks, b_sizes, b_lefts, b_costs, b_lengths, b_operators, b_spans, L, b_ways, b_tasks, b_list)) : wpY_findStates post (g_noted, g_depth, nI (tc_nr c), g_planted, g_trees, g_stateCount, g_known, g_listed, b_marks, b_sizes, b_lefts, b_costs, b_lengths, b_operators, b_spans, b_least, b_ways, b_tasks, b_list) := by
  rcases K with k | ⟨k, sy, yv, k1, k2, k3⟩
  · exact yf_find W U k h
  · subst k; subst k1
    exact br_f (by decide) (h sy yv b_least k2 k3)
theorem sf_H {sc : Nat} {sv : Nat → Nat → Nat} {tm fw : Int32} {ho hf hs ch SC LS LA OS OA TS TA : Nat → Int32} (A : xl_A c ho hf hs ch) (T : xb_T c sc sv tm SC LS LA OS OA TS TA) (w : xz_W c sc sv tm fw) : xz_H c 1 (nI (tc_N c)) (nI sc) fw tm ho hf hs ch SC LS LA OS OA TS TA := Or.inr ⟨rfl, rfl, sc, sv, rfl, A, T, w⟩
theorem i_vc_states {k : Nat} {u : SX} {v : SY} (I : i_Rel k u v) (hk : k + 3 ≤ 1536) : wpX_states (fun r u' => wpY_states (fun r' v' => r' = r ∧ i_Rel (k + 3) u' v') v) u := by
  refine rl_el (P := fun u v => wpX_states (fun r u' => wpY_states (fun r' v' => r' = r ∧ i_Rel (k + 3) u' v') v) u) I ?_
  intro f_drafted f_patternHeight f_rules f_nodes f_treeHeight f_isLaid f_entries f_stateCount f_isWhole f_tooMany f_trialLeast f_covered f_works f_fromStates f_whereFirst f_whereSecond a_draft a_patternBegin a_left a_ruleCost a_ruleSize a_rulePart a_operator a_firstPart a_secondPart a_stack a_treeBegin a_helperOperator a_helperFirst a_helperSecond a_chainFrom a_openParts a_stateCost a_leafState a_leafAdd a_oneState a_oneAdd a_twoState a_twoAdd a_trial a_nodeCost a_nodeWays a_cover a_workEntry a_workNode a_nodeState a_nodeBase g_noted g_depth g_rules g_planted g_trees g_stateCount g_known g_listed b_marks b_sizes b_lefts b_costs b_lengths b_operators b_spans b_least b_ways b_tasks b_list c op sp rt tn D C T H K V
  obtain ⟨rfl, rfl, c3, c4, c5⟩ := C
  refine xf_find c3 c4 H (fun sc sv tm tl fs w1 w2 ho hf hs ch oq SC LS LA OS OA TS TA tr A T' Kx _ => ?_)
  have Y : ∀ r : Int32, (∀ sy yv L, yb_B c sy yv L → (sy = 21 ∨ tn_K c sy yv) → (sy ≤ 20 → nI sy = r) ∧ (20 < sy → -5 = r)) → wpY_states (fun r' v' => r' = r ∧ i_Rel (k + 3) (f_drafted, f_patternHeight, nI (tc_nr c), f_nodes, f_treeHeight, 1, nI (tc_N c), nI sc, 1, tm, tl, f_covered, f_works, fs, w1, w2, a_draft, a_patternBegin, a_left, a_ruleCost, a_ruleSize, a_rulePart, a_operator, a_firstPart, a_secondPart, a_stack, a_treeBegin, ho, hf, hs, ch, oq, SC, LS, LA, OS, OA, TS, TA, tr, a_nodeCost, a_nodeWays, a_cover, a_workEntry, a_workNode, a_nodeState, a_nodeBase) v') (g_noted, g_depth, nI (tc_nr c), g_planted, g_trees, g_stateCount, g_known, g_listed, b_marks, b_sizes, b_lefts, b_costs, b_lengths, b_operators, b_spans, b_least, b_ways, b_tasks, b_list) := by
    intro r hr
    refine sf_y c3 c5 K (fun sy yv L B Ky => ?_)
    have h21 := B.1
    have rel : i_Rel (k + 3) (f_drafted, f_patternHeight, nI (tc_nr c), f_nodes, f_treeHeight, 1, nI (tc_N c), nI sc, 1, tm, tl, f_covered, f_works, fs, w1, w2, a_draft, a_patternBegin, a_left, a_ruleCost, a_ruleSize, a_rulePart, a_operator, a_firstPart, a_secondPart, a_stack, a_treeBegin, ho, hf, hs, ch, oq, SC, LS, LA, OS, OA, TS, TA, tr, a_nodeCost, a_nodeWays, a_cover, a_workEntry, a_workNode, a_nodeState, a_nodeBase) (g_noted, g_depth, nI (tc_nr c), g_planted, g_trees, nI sy, 1, g_listed, b_marks, b_sizes, b_lefts, b_costs, b_lengths, b_operators, b_spans, L, b_ways, b_tasks, b_list) :=
      rl_in D ⟨rfl, rfl, c3, c4, c5⟩ T (sf_H A T' (Or.inr ⟨rfl, Kx⟩)) (Or.inr ⟨rfl, sy, yv, rfl, B, Ky⟩) (Or.inl ⟨rfl, rfl, rfl⟩)
    exact pk_le sy 20 (fun z => ⟨(hr sy yv L B Ky).1 z, rel⟩) (fun z => ⟨(hr sy yv L B Ky).2 z, rel⟩)
  rcases T'.1.2.2.2.2 with h | h
  · refine br_t h (Y _ (fun sy yv L B Ky => ?_))
    rcases sf_cmp T'.1 Kx B Ky with q | q
    · rw [h] at q; exact absurd q.1 (by decide)
    · exact ⟨fun _ => by rw [q.2.1], fun z => by omega⟩
  · refine br_f (by rw [h.1]; decide) (Y _ (fun sy yv L B Ky => ?_))
    rcases sf_cmp T'.1 Kx B Ky with q | q
    · exact ⟨fun z => by omega, fun _ => rfl⟩
    · rw [h.1] at q; exact absurd q.1 (by decide)
theorem sf_x18 {post : Int32 → SX → Prop} {N sc g : Nat} {sv : Nat → Nat → Nat} (hg : g < 4) (hN : 4 ≤ N) (h20 : sc ≤ 20) (Rw : xb_W N sc sv a_stateCost) (hb : ∀ s, s < sc → ∀ e, sv s e ≤ 1000000)
    (K0 : f_tooMany = 0 → post (nI (tn_ct (fun s => sv s g < 1000000) sc)) (f_drafted, f_patternHeight, f_rules, f_nodes, f_treeHeight, f_isLaid, f_entries, nI sc, f_isWhole, f_tooMany, f_trialLeast, f_covered, f_works, f_fromStates, f_whereFirst, f_whereSecond, a_draft, a_patternBegin, a_left, a_ruleCost, a_ruleSize, a_rulePart, a_operator, a_firstPart, a_secondPart, a_stack, a_treeBegin, a_helperOperator, a_helperFirst, a_helperSecond, a_chainFrom, a_openParts, a_stateCost, a_leafState, a_leafAdd, a_oneState, a_oneAdd, a_twoState, a_twoAdd, a_trial, a_nodeCost, a_nodeWays, a_cover, a_workEntry, a_workNode, a_nodeState, a_nodeBase)) (K1 : ¬ f_tooMany = 0 → post (-5) (f_drafted, f_patternHeight, f_rules, f_nodes, f_treeHeight, f_isLaid, f_entries, nI sc, f_isWhole, f_tooMany, f_trialLeast, f_covered, f_works, f_fromStates, f_whereFirst, f_whereSecond, a_draft, a_patternBegin, a_left, a_ruleCost, a_ruleSize, a_rulePart, a_operator, a_firstPart, a_secondPart, a_stack, a_treeBegin, a_helperOperator, a_helperFirst, a_helperSecond, a_chainFrom, a_openParts, a_stateCost, a_leafState, a_leafAdd, a_oneState, a_oneAdd, a_twoState, a_twoAdd, a_trial, a_nodeCost, a_nodeWays, a_cover, a_workEntry, a_workNode, a_nodeState, a_nodeBase)) :
    ∀ d k, k + d = sc → ∀ f, d < f → wX_covering_18 post (nI g) f_drafted f_patternHeight f_rules f_nodes f_treeHeight f_isLaid f_entries (nI sc) f_isWhole f_tooMany f_trialLeast f_covered f_works f_fromStates f_whereFirst f_whereSecond a_draft a_patternBegin a_left a_ruleCost a_ruleSize a_rulePart a_operator a_firstPart a_secondPart a_stack a_treeBegin a_helperOperator a_helperFirst a_helperSecond a_chainFrom a_openParts a_stateCost a_leafState a_leafAdd a_oneState a_oneAdd a_twoState a_twoAdd a_trial a_nodeCost a_nodeWays a_cover a_workEntry a_workNode a_nodeState a_nodeBase f (nI (tn_ct (fun s => sv s g < 1000000) k)) (nI k) := by
  intro d
  induction d with
  | zero =>
    intro k hk f hf
    obtain ⟨f, rfl⟩ : ∃ m, f = m + 1 := ⟨f - 1, by omega⟩
    have ek : k = sc := by omega
    subst ek
    exact pk_le k k (fun _ => br_c K0 K1) (fun z => by omega)
  | succ d ih =>
    intro k hk f hf
    obtain ⟨f, rfl⟩ : ∃ m, f = m + 1 := ⟨f - 1, by omega⟩
    have e1 := xt_74 k g
    have e2 : a_stateCost (74 * nI k + nI g).toNatClampNeg = nI (sv k g) := by rw [e1, nI_clamp (by omega)]; exact Rw k (by omega) g (by omega)
    have b1 := hb k (by omega) g
    have n := ih (k + 1) (by omega) f (by omega)
    refine pk_le sc k (fun z => by omega) (fun _ => ⟨pk_in (74 * k + g) 1628 (by omega) e1, pk_le 1000000 (sv k g) (fun z => nm_r (nI_1 k) ?_) (fun z => nm_r (nI_1 _) (nm_r (nI_1 k) ?_)) rfl e2⟩)
    · have e : tn_ct (fun s => sv s g < 1000000) (k + 1) = tn_ct (fun s => sv s g < 1000000) k := by
        show tn_ct (fun s => sv s g < 1000000) k + tc_b (sv k g < 1000000) = _
        rw [tc_b_f (by omega)]; rfl
      rw [e] at n
      exact n
    · have e : tn_ct (fun s => sv s g < 1000000) (k + 1) = tn_ct (fun s => sv s g < 1000000) k + 1 := by
        show tn_ct (fun s => sv s g < 1000000) k + tc_b (sv k g < 1000000) = _
        rw [tc_b_t (by omega)]
      rw [e] at n
      exact n
theorem sf_y19 {post : Int32 → SY → Prop} {sy g : Nat} {yv : Nat → Nat → Nat} (hg : g < 4) (B : yb_B c sy yv b_least)
    (K0 : sy ≤ 20 → post (nI (tn_ct (fun s => yv s g < 1000000) sy)) (g_noted, g_depth, g_rules, g_planted, g_trees, nI sy, g_known, g_listed, b_marks, b_sizes, b_lefts, b_costs, b_lengths, b_operators, b_spans, b_least, b_ways, b_tasks, b_list)) (K1 : 20 < sy → post (-5) (g_noted, g_depth, g_rules, g_planted, g_trees, nI sy, g_known, g_listed, b_marks, b_sizes, b_lefts, b_costs, b_lengths, b_operators, b_spans, b_least, b_ways, b_tasks, b_list)) :
    ∀ d k, k + d = sy → ∀ f, d < f → wY_covering_19 post (nI g) g_noted g_depth g_rules g_planted g_trees (nI sy) g_known g_listed b_marks b_sizes b_lefts b_costs b_lengths b_operators b_spans b_least b_ways b_tasks b_list f (nI (tn_ct (fun s => yv s g < 1000000) k)) (nI k) := by
  have h21 := B.1
  intro d
  induction d with
  | zero =>
    intro k hk f hf
    obtain ⟨f, rfl⟩ : ∃ m, f = m + 1 := ⟨f - 1, by omega⟩
    have ek : k = sy := by omega
    subst ek
    exact pk_le k k (fun _ => pk_le k 20 K0 K1) (fun z => by omega)
  | succ d ih =>
    intro k hk f hf
    obtain ⟨f, rfl⟩ : ∃ m, f = m + 1 := ⟨f - 1, by omega⟩
    obtain ⟨r1, r2⟩ := B.2.2 k (by omega)
    have e1 : (74 : Int32) * (24 + nI k) + nI g = nI (74 * (24 + k) + g) := by rw [show (24 : Int32) + nI k = nI (24 + k) from yw_l 24 k rfl, xt_74]
    have e2 : b_least (74 * (24 + nI k) + nI g).toNatClampNeg = nI (yv k g) := by rw [e1, nI_clamp (by omega)]; exact r2.1 g hg
    have b1 := tn_R_le r1 g
    have n := ih (k + 1) (by omega) f (by omega)
    refine pk_le sy k (fun z => by omega) (fun _ => ⟨pk_in (74 * (24 + k) + g) 3404 (by omega) e1, pk_le 1000000 (yv k g) (fun z => nm_r (nI_1 k) ?_) (fun z => nm_r (nI_1 _) (nm_r (nI_1 k) ?_)) rfl e2⟩)
    · have e : tn_ct (fun s => yv s g < 1000000) (k + 1) = tn_ct (fun s => yv s g < 1000000) k := by
        show tn_ct (fun s => yv s g < 1000000) k + tc_b (yv k g < 1000000) = _
        rw [tc_b_f (by omega)]; rfl
      rw [e] at n
      exact n
    · have e : tn_ct (fun s => yv s g < 1000000) (k + 1) = tn_ct (fun s => yv s g < 1000000) k + 1 := by
        show tn_ct (fun s => yv s g < 1000000) k + tc_b (yv k g < 1000000) = _
        rw [tc_b_t (by omega)]
      rw [e] at n
      exact n
theorem i_vc_covering {k : Nat} {u : SX} {v : SY} (I : i_Rel k u v) (hk : k + 3 ≤ 1536) (v1 : Int32) : wpX_covering (fun r u' => wpY_covering (fun r' v' => r' = r ∧ i_Rel (k + 3) u' v') v v1) u v1 := by
  refine rl_el (P := fun u v => wpX_covering (fun r u' => wpY_covering (fun r' v' => r' = r ∧ i_Rel (k + 3) u' v') v v1) u v1) I ?_
  intro f_drafted f_patternHeight f_rules f_nodes f_treeHeight f_isLaid f_entries f_stateCount f_isWhole f_tooMany f_trialLeast f_covered f_works f_fromStates f_whereFirst f_whereSecond a_draft a_patternBegin a_left a_ruleCost a_ruleSize a_rulePart a_operator a_firstPart a_secondPart a_stack a_treeBegin a_helperOperator a_helperFirst a_helperSecond a_chainFrom a_openParts a_stateCost a_leafState a_leafAdd a_oneState a_oneAdd a_twoState a_twoAdd a_trial a_nodeCost a_nodeWays a_cover a_workEntry a_workNode a_nodeState a_nodeBase g_noted g_depth g_rules g_planted g_trees g_stateCount g_known g_listed b_marks b_sizes b_lefts b_costs b_lengths b_operators b_spans b_least b_ways b_tasks b_list c op sp rt tn D C T H K V
  rcases pk_ix v1 (n := 4) (by decide) with h | h | ⟨g, hg, rfl⟩
  · exact br_t h (br_f (by decide) (br_t h ⟨rfl, rl_in D C T H K V⟩))
  · obtain ⟨h1, h2, h3, -⟩ := sm_4 h
    exact br_f h1 (br_f h2 (br_f (by decide) (br_f h1 (br_f h3 ⟨rfl, rl_in D C T H K V⟩))))
  · obtain ⟨rfl, rfl, c3, c4, c5⟩ := C
    have n0 : ¬ nI g < 0 := nI_pos (by omega)
    have n4 : nI g < 4 := nI_lt (b := 4) (by omega) (by decide)
    have n3 : nI g ≤ 3 := nI_le (b := 3) (by omega) (by decide)
    have hN := tc_N_le c3
    refine br_f n0 (br_t n4 (br_t rfl (xf_find c3 c4 H (fun sc sv tm tl fs w1 w2 ho hf hs ch oq SC LS LA OS OA TS TA tr A T' Kx _ => ⟨sc + 1, ?_⟩))))
    have Y : ∀ r : Int32, (∀ sy yv L, yb_B c sy yv L → (sy = 21 ∨ tn_K c sy yv) → (sy ≤ 20 → nI (tn_ct (fun s => yv s g < 1000000) sy) = r) ∧ (20 < sy → -5 = r)) → wpY_covering (fun r' v' => r' = r ∧ i_Rel (k + 3) (f_drafted, f_patternHeight, nI (tc_nr c), f_nodes, f_treeHeight, 1, nI (tc_N c), nI sc, 1, tm, tl, f_covered, f_works, fs, w1, w2, a_draft, a_patternBegin, a_left, a_ruleCost, a_ruleSize, a_rulePart, a_operator, a_firstPart, a_secondPart, a_stack, a_treeBegin, ho, hf, hs, ch, oq, SC, LS, LA, OS, OA, TS, TA, tr, a_nodeCost, a_nodeWays, a_cover, a_workEntry, a_workNode, a_nodeState, a_nodeBase) v') (g_noted, g_depth, nI (tc_nr c), g_planted, g_trees, g_stateCount, g_known, g_listed, b_marks, b_sizes, b_lefts, b_costs, b_lengths, b_operators, b_spans, b_least, b_ways, b_tasks, b_list) (nI g) := by
      intro r hr
      refine br_f n0 (br_t n3 (sf_y c3 c5 K (fun sy yv L B Ky => ⟨sy + 1, ?_⟩)))
      have rel : i_Rel (k + 3) (f_drafted, f_patternHeight, nI (tc_nr c), f_nodes, f_treeHeight, 1, nI (tc_N c), nI sc, 1, tm, tl, f_covered, f_works, fs, w1, w2, a_draft, a_patternBegin, a_left, a_ruleCost, a_ruleSize, a_rulePart, a_operator, a_firstPart, a_secondPart, a_stack, a_treeBegin, ho, hf, hs, ch, oq, SC, LS, LA, OS, OA, TS, TA, tr, a_nodeCost, a_nodeWays, a_cover, a_workEntry, a_workNode, a_nodeState, a_nodeBase) (g_noted, g_depth, nI (tc_nr c), g_planted, g_trees, nI sy, 1, g_listed, b_marks, b_sizes, b_lefts, b_costs, b_lengths, b_operators, b_spans, L, b_ways, b_tasks, b_list) :=
        rl_in D ⟨rfl, rfl, c3, c4, c5⟩ T (sf_H A T' (Or.inr ⟨rfl, Kx⟩)) (Or.inr ⟨rfl, sy, yv, rfl, B, Ky⟩) (Or.inl ⟨rfl, rfl, rfl⟩)
      exact sf_y19 hg B (fun z => ⟨(hr sy yv L B Ky).1 z, rel⟩) (fun z => ⟨(hr sy yv L B Ky).2 z, rel⟩) sy 0 (by omega) (sy + 1) (by omega)
    refine sf_x18 hg hN.1 T'.1.1 T'.1.2.2.2.1 (fun s hs => tn_R_le (T'.1.2.2.1 s hs)) (fun h => Y _ (fun sy yv L B Ky => ?_)) (fun h => Y _ (fun sy yv L B Ky => ?_)) sc 0 (by omega) (sc + 1) (by omega)
    · rcases sf_cmp T'.1 Kx B Ky with q | q
      · rw [h] at q; exact absurd q.1 (by decide)
      · exact ⟨fun _ => by rw [q.2.2.2 (fun w => w g < 1000000)], fun z => by omega⟩
    · rcases sf_cmp T'.1 Kx B Ky with q | q
      · exact ⟨fun z => by omega, fun _ => rfl⟩
      · exact absurd q.1 h
end
end
section
/-! cost, goals -/
section
variable {f_drafted f_patternHeight f_rules f_nodes f_treeHeight f_isLaid f_entries f_stateCount f_isWhole f_tooMany f_trialLeast f_covered f_works f_fromStates f_whereFirst f_whereSecond : Int32} {a_draft a_patternBegin a_left a_ruleCost a_ruleSize a_rulePart a_operator a_firstPart a_secondPart a_stack a_treeBegin a_helperOperator a_helperFirst a_helperSecond a_chainFrom a_openParts a_stateCost a_leafState a_leafAdd a_oneState a_oneAdd a_twoState a_twoAdd a_trial a_nodeCost a_nodeWays a_cover a_workEntry a_workNode a_nodeState a_nodeBase : Nat → Int32} {g_noted g_depth g_rules g_planted g_trees g_stateCount g_known g_listed : Int32} {b_marks b_sizes b_lefts b_costs b_lengths b_operators b_spans b_least b_ways b_tasks b_list : Nat → Int32} {c : tc_C} {op sp rt : Nat → Nat} {tn : Nat}
theorem tt_rng (F : tt_F op sp tn) {h : Nat} (O : tc_fo sp tn h rt) {j : Nat} (hj : j < h) : rt j < tn ∧ tc_bg rt j ≤ rt j ∧ ∀ n, tc_bg rt j ≤ n → n ≤ rt j → 2 ≤ op n → tc_bg rt j ≤ tt_x op sp n := by
  have m := tc_fo_mono O h (Nat.le_refl _) j hj
  rw [O.2.1] at m
  have o1 := O.1 j hj
  refine ⟨m, by omega, fun n h1 h2 h3 => ?_⟩
  cases j with
  | zero => exact Nat.zero_le _
  | succ j =>
    have e : tc_bg rt (j + 1) = rt j + 1 := rfl
    rw [e] at h1 ⊢
    have q := O.2.2 j (by omega) n (by omega) (by omega)
    obtain ⟨l1, l2, l3, l4, l5, l6, l7, l8⟩ := tt_loc F (show n < tn by omega)
    have hn1 := l4 h3
    unfold tt_x
    by_cases z : op n < 4
    · rw [if_pos z]
      have := l7 h3 z
      have := (tt_loc F (show n - 1 < tn by omega)).2.1
      omega
    · rw [if_neg z]
      have := l8 (by omega)
      have := l5 (by omega)
      have := (tt_loc F (show n - 1 - sp (n - 1) < tn by omega)).2.1
      omega
def sl_S (op rt : Nat → Nat) (tn : Nat) (stack treeBegin : Nat → Int32) : Prop := ∀ j, j < tc_ht op tn → stack j = nI (rt j) ∧ treeBegin j = nI (tc_bg rt j)
theorem sl_lab (W : tc_wf c) (R : xl_R c a_left a_ruleCost a_ruleSize a_rulePart) (H : xz_H c f_isLaid f_entries f_stateCount f_isWhole f_tooMany a_helperOperator a_helperFirst a_helperSecond a_chainFrom a_stateCost a_leafState a_leafAdd a_oneState a_oneAdd a_twoState a_twoAdd) (F : tt_F op sp tn) (h8 : tc_ht op tn ≤ 8) (O : tc_fo sp tn (tc_ht op tn) rt) (Nd : xn_N op sp tn a_operator a_firstPart a_secondPart) (S : sl_S op rt tn a_stack a_treeBegin) {post : Int32 → SX → Prop} {pl : Nat} (hpl : pl < tc_ht op tn) {p : Int32} (hp : p = nI pl)
    (K : ∀ (sc : Nat) (sv : Nat → Nat → Nat) (fw tm tl fs w1 w2 : Int32) (ho hf hs ch oq SC LS LA OS OA TS TA tr NC NS NB : Nat → Int32), xl_A c ho hf hs ch → xb_T c sc sv tm SC LS LA OS OA TS TA → xz_W c sc sv tm fw → ((f_isLaid = 0 ∧ fw = 0) ∨ (f_isLaid = 1 ∧ fw = f_isWhole)) → (∀ m, tc_bg rt pl ≤ m → m ≤ rt pl → xn_C c op sp NC m) → (∀ j, (j < 74 * tc_bg rt pl ∨ 74 * rt pl + 74 ≤ j) → NC j = a_nodeCost j) → post 1 (f_drafted, f_patternHeight, nI (tc_nr c), f_nodes, f_treeHeight, 1, nI (tc_N c), nI sc, fw, tm, tl, f_covered, f_works, fs, w1, w2, a_draft, a_patternBegin, a_left, a_ruleCost, a_ruleSize, a_rulePart, a_operator, a_firstPart, a_secondPart, a_stack, a_treeBegin, ho, hf, hs, ch, oq, SC, LS, LA, OS, OA, TS, TA, tr, NC, a_nodeWays, a_cover, a_workEntry, a_workNode, NS, NB)) :
    wpX_labelTree post (f_drafted, f_patternHeight, nI (tc_nr c), f_nodes, f_treeHeight, f_isLaid, f_entries, f_stateCount, f_isWhole, f_tooMany, f_trialLeast, f_covered, f_works, f_fromStates, f_whereFirst, f_whereSecond, a_draft, a_patternBegin, a_left, a_ruleCost, a_ruleSize, a_rulePart, a_operator, a_firstPart, a_secondPart, a_stack, a_treeBegin, a_helperOperator, a_helperFirst, a_helperSecond, a_chainFrom, a_openParts, a_stateCost, a_leafState, a_leafAdd, a_oneState, a_oneAdd, a_twoState, a_twoAdd, a_trial, a_nodeCost, a_nodeWays, a_cover, a_workEntry, a_workNode, a_nodeState, a_nodeBase) p := by
  subst hp
  obtain ⟨q1, q2, q3⟩ := tt_rng F O hpl
  exact xn_tree W R H F Nd (by omega) q1 q2 (S pl hpl).1 (S pl hpl).2 q3 K
theorem sl_neg {post : Int32 → SX → Prop} {p : Int32} (hp : p = -1) (K : post 0 (f_drafted, f_patternHeight, f_rules, f_nodes, f_treeHeight, f_isLaid, f_entries, f_stateCount, f_isWhole, f_tooMany, f_trialLeast, f_covered, f_works, f_fromStates, f_whereFirst, f_whereSecond, a_draft, a_patternBegin, a_left, a_ruleCost, a_ruleSize, a_rulePart, a_operator, a_firstPart, a_secondPart, a_stack, a_treeBegin, a_helperOperator, a_helperFirst, a_helperSecond, a_chainFrom, a_openParts, a_stateCost, a_leafState, a_leafAdd, a_oneState, a_oneAdd, a_twoState, a_twoAdd, a_trial, a_nodeCost, a_nodeWays, a_cover, a_workEntry, a_workNode, a_nodeState, a_nodeBase)) : wpX_labelTree post (f_drafted, f_patternHeight, f_rules, f_nodes, f_treeHeight, f_isLaid, f_entries, f_stateCount, f_isWhole, f_tooMany, f_trialLeast, f_covered, f_works, f_fromStates, f_whereFirst, f_whereSecond, a_draft, a_patternBegin, a_left, a_ruleCost, a_ruleSize, a_rulePart, a_operator, a_firstPart, a_secondPart, a_stack, a_treeBegin, a_helperOperator, a_helperFirst, a_helperSecond, a_chainFrom, a_openParts, a_stateCost, a_leafState, a_leafAdd, a_oneState, a_oneAdd, a_twoState, a_twoAdd, a_trial, a_nodeCost, a_nodeWays, a_cover, a_workEntry, a_workNode, a_nodeState, a_nodeBase) p := br_f (by rw [hp]; decide) K
theorem rl_W_lay {isLaid isWhole known fw : Int32} (V : rl_W isLaid isWhole known) (Fw : (isLaid = 0 ∧ fw = 0) ∨ (isLaid = 1 ∧ fw = isWhole)) : rl_W 1 fw known := by
  rcases V with ⟨v1, v2, v3⟩ | ⟨v1, v2⟩
  · rcases Fw with ⟨f1, f2⟩ | ⟨f1, f2⟩
    · rw [v2] at f1; exact absurd f1 (by decide)
    · exact Or.inl ⟨v1, rfl, f2.trans v3⟩
  · rcases Fw with ⟨f1, f2⟩ | ⟨f1, f2⟩
    · exact Or.inr ⟨v1, Or.inr f2⟩
    · refine Or.inr ⟨v1, Or.inr ?_⟩
      rcases v2 with v2 | v2
      · rw [v2] at f1; exact absurd f1 (by decide)
      · exact f2.trans v2
theorem rl_K_fr (W : tc_wf c) {known stateCount : Int32} {L L' : Nat → Int32} (K : rl_K c known stateCount L) (h : ∀ j, 74 * 24 ≤ j → L' j = L j) : rl_K c known stateCount L' := by
  rcases K with k | ⟨k, sy, yv, k1, k2, k3⟩
  · exact Or.inl k
  · exact Or.inr ⟨k, sy, yv, k1, yb_B_fr W k2 (fun j h1 _ => h j h1), k3⟩
theorem xs_cost {post : Int32 → Prop} {n e : Nat} {x y z : Int32} (hn : n < 24) (he : e < 74) (hx : x = nI n) (hy : y = nI e) (hz : a_nodeCost (74 * n + e) = z) (K : post z) : wpX_costOf post (f_drafted, f_patternHeight, f_rules, f_nodes, f_treeHeight, f_isLaid, f_entries, f_stateCount, f_isWhole, f_tooMany, f_trialLeast, f_covered, f_works, f_fromStates, f_whereFirst, f_whereSecond, a_draft, a_patternBegin, a_left, a_ruleCost, a_ruleSize, a_rulePart, a_operator, a_firstPart, a_secondPart, a_stack, a_treeBegin, a_helperOperator, a_helperFirst, a_helperSecond, a_chainFrom, a_openParts, a_stateCost, a_leafState, a_leafAdd, a_oneState, a_oneAdd, a_twoState, a_twoAdd, a_trial, a_nodeCost, a_nodeWays, a_cover, a_workEntry, a_workNode, a_nodeState, a_nodeBase) x y := by
  subst hx; subst hy; subst hz
  refine ⟨pk_in (74 * n + e) 1776 (by omega) (xt_74 n e), ?_⟩
  rw [xt_74, nI_clamp (by omega)]
  exact K
end
theorem i_vc_cost {k : Nat} {u : SX} {v : SY} (I : i_Rel k u v) (hk : k + 3 ≤ 1536) (v1 : Int32) : wpX_cost (fun r u' => wpY_cost (fun r' v' => r' = r ∧ i_Rel (k + 3) u' v') v v1) u v1 := by
  refine rl_el (P := fun u v => wpX_cost (fun r u' => wpY_cost (fun r' v' => r' = r ∧ i_Rel (k + 3) u' v') v v1) u v1) I ?_
  intro f_drafted f_patternHeight f_rules f_nodes f_treeHeight f_isLaid f_entries f_stateCount f_isWhole f_tooMany f_trialLeast f_covered f_works f_fromStates f_whereFirst f_whereSecond a_draft a_patternBegin a_left a_ruleCost a_ruleSize a_rulePart a_operator a_firstPart a_secondPart a_stack a_treeBegin a_helperOperator a_helperFirst a_helperSecond a_chainFrom a_openParts a_stateCost a_leafState a_leafAdd a_oneState a_oneAdd a_twoState a_twoAdd a_trial a_nodeCost a_nodeWays a_cover a_workEntry a_workNode a_nodeState a_nodeBase g_noted g_depth g_rules g_planted g_trees g_stateCount g_known g_listed b_marks b_sizes b_lefts b_costs b_lengths b_operators b_spans b_least b_ways b_tasks b_list c op sp rt tn D C T H K V
  rcases pk_ix v1 (n := 4) (by decide) with h | h | ⟨g, hg, rfl⟩
  · exact br_t h (br_f (by decide) (br_t h ⟨rfl, rl_in D C T H K V⟩))
  · obtain ⟨h1, h2, h3, -⟩ := sm_4 h
    exact br_f h1 (br_f h2 (br_f (by decide) (br_f h1 (br_f h3 ⟨rfl, rl_in D C T H K V⟩))))
  · obtain ⟨rfl, rfl, c3, c4, c5⟩ := C
    have T0 := T
    obtain ⟨rfl, rfl, rfl, rfl, t5, t6, t7, t8, t9, t10⟩ := T
    have n0 : ¬ nI g < 0 := nI_pos (by omega)
    have n4 : nI g < 4 := nI_lt (b := 4) (by omega) (by decide)
    have n3 : nI g ≤ 3 := nI_le (b := 3) (by omega) (by decide)
    have h24 := t5.1
    have hN := tc_N_le c3
    have ht1 : 0 < tc_ht op tn → 1 ≤ tn := fun h => by have := tc_ht_le op tn; omega
    refine br_f n0 (br_t n4 (br_t rfl ?_))
    by_cases z : tc_ht op tn = 0
    · refine sl_neg (by rw [z]; decide) (br_t rfl (br_f n0 (br_t n3 (yt_top c3 c5 t5 t9 t6 hg ht1 (fun _ L R Fr => br_f (by decide) ⟨rfl, ?_⟩) (fun h => by omega)))))
      exact rl_in D ⟨rfl, rfl, c3, c4, c5⟩ T0 H (rl_K_fr c3 K Fr) V
    · obtain ⟨h, eh⟩ : ∃ h, tc_ht op tn = h + 1 := ⟨tc_ht op tn - 1, by omega⟩
      have t7' := t7
      rw [eh] at t7'
      obtain ⟨r1, r2, r3⟩ := rt_top t7'
      have e1 : nI (tc_ht op tn) - 1 = nI h := by rw [eh, nI_pred]
      have A9 := tt_A_le (c := c) t5 (show tn - 1 < tn by omega) g
      refine sl_lab c3 c4 H t5 t6 t7 t8 t10 (pl := h) (by omega) e1 (fun sc sv fw tm tl fs w1 w2 ho hf hs ch oq SC LS LA OS OA TS TA tr NC NS NB A T' Wh Fw Cs Fr' => br_f (by decide) ?_)
      have hc : NC (74 * (tn - 1) + g) = nI (tt_A c op sp (tn - 1) g) := Cs (tn - 1) (by omega) (by omega) g (by omega)
      refine ⟨by rw [e1]; exact vp_in_nI (by omega) (by decide), xs_cost (n := tn - 1) (by omega) (by omega) (by rw [e1, nI_clamp (by omega), (t10 h (by omega)).1]; exact congrArg nI (by omega)) rfl hc ?_⟩
      have Y : ∀ r : Int32, (tt_A c op sp (tn - 1) g < 1000000 → nI (tt_A c op sp (tn - 1) g) = r) → (1000000 ≤ tt_A c op sp (tn - 1) g → -4 = r) → wpY_cost (fun r' v' => r' = r ∧ i_Rel (k + 3) (f_drafted, f_patternHeight, nI (tc_nr c), nI tn, nI (tc_ht op tn), 1, nI (tc_N c), nI sc, fw, tm, tl, f_covered, f_works, fs, w1, w2, a_draft, a_patternBegin, a_left, a_ruleCost, a_ruleSize, a_rulePart, a_operator, a_firstPart, a_secondPart, a_stack, a_treeBegin, ho, hf, hs, ch, oq, SC, LS, LA, OS, OA, TS, TA, tr, NC, a_nodeWays, a_cover, a_workEntry, a_workNode, NS, NB) v') (g_noted, g_depth, nI (tc_nr c), nI tn, nI (tc_ht op tn), g_stateCount, g_known, g_listed, b_marks, b_sizes, b_lefts, b_costs, b_lengths, b_operators, b_spans, b_least, b_ways, b_tasks, b_list) (nI g) := by
        intro r h1 h2
        refine br_f n0 (br_t n3 (yt_top c3 c5 t5 t9 t6 hg ht1 (fun h => absurd h z) (fun _ L R Fr => ?_)))
        have rel : i_Rel (k + 3) (f_drafted, f_patternHeight, nI (tc_nr c), nI tn, nI (tc_ht op tn), 1, nI (tc_N c), nI sc, fw, tm, tl, f_covered, f_works, fs, w1, w2, a_draft, a_patternBegin, a_left, a_ruleCost, a_ruleSize, a_rulePart, a_operator, a_firstPart, a_secondPart, a_stack, a_treeBegin, ho, hf, hs, ch, oq, SC, LS, LA, OS, OA, TS, TA, tr, NC, a_nodeWays, a_cover, a_workEntry, a_workNode, NS, NB) (g_noted, g_depth, nI (tc_nr c), nI tn, nI (tc_ht op tn), g_stateCount, g_known, g_listed, b_marks, b_sizes, b_lefts, b_costs, b_lengths, b_operators, b_spans, L, b_ways, b_tasks, b_list) := rl_in D ⟨rfl, rfl, c3, c4, c5⟩ T0 (sf_H A T' Wh) (rl_K_fr c3 K Fr) (rl_W_lay V Fw)
        exact pk_lt (tt_A c op sp (tn - 1) g) 1000000 (fun q => ⟨h1 q, rel⟩) (fun q => ⟨h2 q, rel⟩)
      exact pk_lt (tt_A c op sp (tn - 1) g) 1000000 (fun q => Y _ (fun _ => rfl) (fun q' => by omega)) (fun q => Y _ (fun q' => by omega) (fun _ => rfl))
/-! goals -/
def sg_s (A : Nat → Nat) : Nat → Int32
  | 0 => 0
  | k + 1 => if 1000000 ≤ A k then sg_s A k else sg_s A k ||| ((1 : Int32) <<< (nI k &&& 31))
section
variable {f_drafted f_patternHeight f_rules f_nodes f_treeHeight f_isLaid f_entries f_stateCount f_isWhole f_tooMany f_trialLeast f_covered f_works f_fromStates f_whereFirst f_whereSecond : Int32} {a_draft a_patternBegin a_left a_ruleCost a_ruleSize a_rulePart a_operator a_firstPart a_secondPart a_stack a_treeBegin a_helperOperator a_helperFirst a_helperSecond a_chainFrom a_openParts a_stateCost a_leafState a_leafAdd a_oneState a_oneAdd a_twoState a_twoAdd a_trial a_nodeCost a_nodeWays a_cover a_workEntry a_workNode a_nodeState a_nodeBase : Nat → Int32} {g_noted g_depth g_rules g_planted g_trees g_stateCount g_known g_listed : Int32} {b_marks b_sizes b_lefts b_costs b_lengths b_operators b_spans b_least b_ways b_tasks b_list : Nat → Int32} {c : tc_C} {op sp rt : Nat → Nat} {tn : Nat}
theorem sg_15 {post : Int32 → SX → Prop} {n : Nat} {A : Nat → Nat} (hn : n < 24) (es : vp_in (f_treeHeight - 1) 8) (et : a_stack (f_treeHeight - 1).toNatClampNeg = nI n) (hA : ∀ g, g < 4 → a_nodeCost (74 * n + g) = nI (A g)) (hb : ∀ g, A g ≤ 1000000)
    (K : post (sg_s A 4) (f_drafted, f_patternHeight, f_rules, f_nodes, f_treeHeight, f_isLaid, f_entries, f_stateCount, f_isWhole, f_tooMany, f_trialLeast, f_covered, f_works, f_fromStates, f_whereFirst, f_whereSecond, a_draft, a_patternBegin, a_left, a_ruleCost, a_ruleSize, a_rulePart, a_operator, a_firstPart, a_secondPart, a_stack, a_treeBegin, a_helperOperator, a_helperFirst, a_helperSecond, a_chainFrom, a_openParts, a_stateCost, a_leafState, a_leafAdd, a_oneState, a_oneAdd, a_twoState, a_twoAdd, a_trial, a_nodeCost, a_nodeWays, a_cover, a_workEntry, a_workNode, a_nodeState, a_nodeBase)) : ∀ d k, k + d = 4 → ∀ f, d < f → wX_goals_15 post 1 f_drafted f_patternHeight f_rules f_nodes f_treeHeight f_isLaid f_entries f_stateCount f_isWhole f_tooMany f_trialLeast f_covered f_works f_fromStates f_whereFirst f_whereSecond a_draft a_patternBegin a_left a_ruleCost a_ruleSize a_rulePart a_operator a_firstPart a_secondPart a_stack a_treeBegin a_helperOperator a_helperFirst a_helperSecond a_chainFrom a_openParts a_stateCost a_leafState a_leafAdd a_oneState a_oneAdd a_twoState a_twoAdd a_trial a_nodeCost a_nodeWays a_cover a_workEntry a_workNode a_nodeState a_nodeBase f (sg_s A k) (nI k) := by
  intro d
  induction d with
  | zero =>
    intro k hk f hf
    obtain ⟨f, rfl⟩ : ∃ m, f = m + 1 := ⟨f - 1, by omega⟩
    have ek : k = 4 := by omega
    subst ek
    exact pk_le 4 4 (fun _ => K) (fun z => by omega)
  | succ d ih =>
    intro k hk f hf
    obtain ⟨f, rfl⟩ : ∃ m, f = m + 1 := ⟨f - 1, by omega⟩
    have b := hb k
    have q := ih (k + 1) (by omega) f (by omega)
    refine pk_le 4 k (fun z => by omega) (fun _ => br_f (by decide) ⟨es, xs_cost (n := n) (e := k) hn (by omega) et rfl (hA k (by omega)) (pk_le 1000000 (A k) (fun z => nm_r (nI_1 k) ?_) (fun z => nm_e (nm_r (nI_1 k) ?_)))⟩)
    · rw [show sg_s A (k + 1) = sg_s A k from if_pos z] at q; exact q
    · rw [show sg_s A (k + 1) = sg_s A k ||| ((1 : Int32) <<< (nI k &&& 31)) from if_neg (by omega)] at q; exact q
theorem sg_4 (W : tc_wf c) (U : yw_U c b_marks b_sizes b_lefts b_costs b_lengths) (F : tt_F op sp tn) (Nd : yt_N op sp tn b_operators b_spans) {post : Int32 → SY → Prop} {th : Nat} {A : Nat → Nat} (hth : th ≤ 8) (ht1 : 0 < th → 1 ≤ tn) (h0 : th = 0 → A = fun _ => 1000000) (h1 : 0 < th → A = tt_A c op sp (tn - 1)) (hb : ∀ g, A g ≤ 1000000)
    (K : ∀ L : Nat → Int32, (∀ j, 74 * 24 ≤ j → L j = b_least j) → post (sg_s A 4) (g_noted, g_depth, nI (tc_nr c), nI tn, nI th, g_stateCount, g_known, g_listed, b_marks, b_sizes, b_lefts, b_costs, b_lengths, b_operators, b_spans, L, b_ways, b_tasks, b_list)) : ∀ d k, k + d = 4 → ∀ L : Nat → Int32, (∀ j, 74 * 24 ≤ j → L j = b_least j) → ∀ f, d < f → wY_goals_4 post f (sg_s A k) (nI k) g_noted g_depth (nI (tc_nr c)) (nI tn) (nI th) g_stateCount g_known g_listed b_marks b_sizes b_lefts b_costs b_lengths b_operators b_spans L b_ways b_tasks b_list := by
  intro d
  induction d with
  | zero =>
    intro k hk L Fr f hf
    obtain ⟨f, rfl⟩ : ∃ m, f = m + 1 := ⟨f - 1, by omega⟩
    have ek : k = 4 := by omega
    subst ek
    exact pk_le 4 4 (fun _ => K L Fr) (fun z => by omega)
  | succ d ih =>
    intro k hk L Fr f hf
    obtain ⟨f, rfl⟩ : ∃ m, f = m + 1 := ⟨f - 1, by omega⟩
    have b := hb k
    refine pk_le 4 k (fun z => by omega) (fun _ => yt_top W U F Nd hth (show k < 4 by omega) ht1 (fun h L' R Fr' => ?_) (fun h L' R Fr' => ?_))
    · have q := ih (k + 1) (by omega) L' (fun j hj => (Fr' j hj).trans (Fr j hj)) f (by omega)
      rw [show sg_s A (k + 1) = sg_s A k from if_pos (by rw [h0 h]; exact Nat.le_refl _)] at q
      exact br_t (by decide) (nm_r (nI_1 k) q)
    · have q := ih (k + 1) (by omega) L' (fun j hj => (Fr' j hj).trans (Fr j hj)) f (by omega)
      rw [← h1 h]
      refine pk_le 1000000 (A k) (fun z => nm_r (nI_1 k) ?_) (fun z => nm_e (nm_r (nI_1 k) ?_))
      · rw [show sg_s A (k + 1) = sg_s A k from if_pos z] at q; exact q
      · rw [show sg_s A (k + 1) = sg_s A k ||| ((1 : Int32) <<< (nI k &&& 31)) from if_neg (by omega)] at q; exact q
end
theorem i_vc_goals {k : Nat} {u : SX} {v : SY} (I : i_Rel k u v) (hk : k + 3 ≤ 1536) : wpX_goals (fun r u' => wpY_goals (fun r' v' => r' = r ∧ i_Rel (k + 3) u' v') v) u := by
  refine rl_el (P := fun u v => wpX_goals (fun r u' => wpY_goals (fun r' v' => r' = r ∧ i_Rel (k + 3) u' v') v) u) I ?_
  intro f_drafted f_patternHeight f_rules f_nodes f_treeHeight f_isLaid f_entries f_stateCount f_isWhole f_tooMany f_trialLeast f_covered f_works f_fromStates f_whereFirst f_whereSecond a_draft a_patternBegin a_left a_ruleCost a_ruleSize a_rulePart a_operator a_firstPart a_secondPart a_stack a_treeBegin a_helperOperator a_helperFirst a_helperSecond a_chainFrom a_openParts a_stateCost a_leafState a_leafAdd a_oneState a_oneAdd a_twoState a_twoAdd a_trial a_nodeCost a_nodeWays a_cover a_workEntry a_workNode a_nodeState a_nodeBase g_noted g_depth g_rules g_planted g_trees g_stateCount g_known g_listed b_marks b_sizes b_lefts b_costs b_lengths b_operators b_spans b_least b_ways b_tasks b_list c op sp rt tn D C T H K V
  obtain ⟨rfl, rfl, c3, c4, c5⟩ := C
  have T0 := T
  obtain ⟨rfl, rfl, rfl, rfl, t5, t6, t7, t8, t9, t10⟩ := T
  have h24 := t5.1
  have hN := tc_N_le c3
  have ht1 : 0 < tc_ht op tn → 1 ≤ tn := fun h => by have := tc_ht_le op tn; omega
  by_cases z : tc_ht op tn = 0
  · refine sl_neg (by rw [z]; decide) ⟨1, br_f (by decide) (br_t rfl ⟨5, ?_⟩)⟩
    have e0 : sg_s (fun _ => 1000000) 4 = 0 := by decide
    refine sg_4 c3 c5 t5 t9 t6 ht1 (A := fun _ => 1000000) (fun _ => rfl) (fun h => by omega) (fun _ => Nat.le_refl _) (fun L Fr => ⟨e0, ?_⟩) 4 0 rfl b_least (fun _ _ => rfl) 5 (by omega)
    exact rl_in D ⟨rfl, rfl, c3, c4, c5⟩ T0 H (rl_K_fr c3 K Fr) V
  · obtain ⟨h, eh⟩ : ∃ h, tc_ht op tn = h + 1 := ⟨tc_ht op tn - 1, by omega⟩
    have t7' := t7
    rw [eh] at t7'
    obtain ⟨r1, r2, r3⟩ := rt_top t7'
    have e1 : nI (tc_ht op tn) - 1 = nI h := by rw [eh, nI_pred]
    have A9 := tt_A_le (c := c) t5 (show tn - 1 < tn by omega)
    refine sl_lab c3 c4 H t5 t6 t7 t8 t10 (pl := h) (by omega) e1 (fun sc sv fw tm tl fs w1 w2 ho hf hs ch oq SC LS LA OS OA TS TA tr NC NS NB A T' Wh Fw Cs Fr' => ⟨5, ?_⟩)
    refine sg_15 (n := tn - 1) (A := tt_A c op sp (tn - 1)) (by omega) (by rw [e1]; exact vp_in_nI (by omega) (by decide)) (by rw [e1, nI_clamp (by omega), (t10 h (by omega)).1]; exact congrArg nI (by omega)) (fun g hg => Cs (tn - 1) (by omega) (by omega) g (by omega)) A9 ⟨5, ?_⟩ 4 0 rfl 5 (by omega)
    refine sg_4 c3 c5 t5 t9 t6 ht1 (A := tt_A c op sp (tn - 1)) (fun h => absurd h z) (fun _ => rfl) A9 (fun L Fr => ⟨rfl, ?_⟩) 4 0 rfl b_least (fun _ _ => rfl) 5 (by omega)
    exact rl_in D ⟨rfl, rfl, c3, c4, c5⟩ T0 (sf_H A T' Wh) (rl_K_fr c3 K Fr) (rl_W_lay V Fw)
end
section
/-! alike -/
theorem sa_ne {a b : Nat} (ha : a < 1000000) (hb : b < 1000000) : ¬ nI a - nI b = 1000000 := fun h => by
  have e := congrArg Int32.toInt h
  rw [pk_sub_toInt (by omega) (by omega), show (1000000 : Int32).toInt = 1000000 from by decide] at e
  omega
theorem sa_eq {a b x y : Nat} (ha : a < 1000000) (hb : b < 1000000) (hx : x < 1000000) (hy : y < 1000000) : nI a - nI b = nI x - nI y ↔ a + y = x + b := by
  rw [← Int32.toInt_inj, pk_sub_toInt (by omega) (by omega), pk_sub_toInt (by omega) (by omega)]
  omega
def sa_bad (A B : Nat → Nat) (N : Nat) : Prop := (∃ e, e < N ∧ ¬ (A e < 1000000 ↔ B e < 1000000)) ∨ ∃ e i, e < N ∧ i < N ∧ A e < 1000000 ∧ B e < 1000000 ∧ A i < 1000000 ∧ B i < 1000000 ∧ ¬ nI (A e) - nI (B e) = nI (A i) - nI (B i)
def sa_g (A B : Nat → Nat) (k : Nat) (G : Int32) : Prop := (G = 1000000 ∧ ∀ e, e < k → ¬ (A e < 1000000 ∧ B e < 1000000)) ∨ ∃ e, e < k ∧ A e < 1000000 ∧ B e < 1000000 ∧ G = nI (A e) - nI (B e)
def sa_s (A B : Nat → Nat) (N k : Nat) (G s : Int32) : Prop := (s = 1 ∧ ∀ e, e < k → (A e < 1000000 ↔ B e < 1000000) ∧ (A e < 1000000 → B e < 1000000 → nI (A e) - nI (B e) = G)) ∨ (s = 0 ∧ sa_bad A B N)
theorem sa_fin1 {A B : Nat → Nat} {N : Nat} {G : Int32} (h : ∀ e, e < N → (A e < 1000000 ↔ B e < 1000000) ∧ (A e < 1000000 → B e < 1000000 → nI (A e) - nI (B e) = G)) : tn_v A N = tn_v B N := by
  refine ys_ok_v.mp (fun j hj => ?_)
  by_cases ha : A j < 1000000
  · have hb := (h j hj).1.mp ha
    refine Or.inr ⟨ha, hb, ?_⟩
    have la := tn_mn_lb A N
    have lb := tn_mn_lb B N
    have laj := la j hj
    have lbj := lb j hj
    have key : ∀ i, i < N → A i < 1000000 → A j + B i = A i + B j := fun i hi hai => by
      have hbi := (h i hi).1.mp hai
      exact (sa_eq ha hb hai hbi).mp (((h j hj).2 ha hb).trans ((h i hi).2 hai hbi).symm)
    rcases tn_mn_at A N with z | ⟨p, p1, p2⟩
    · omega
    · rcases tn_mn_at B N with y | ⟨q, q1, q2⟩
      · omega
      · have hp : A p < 1000000 := by omega
        have hq : A q < 1000000 := (h q q1).1.mpr (by omega)
        have k1 := key p p1 hp
        have k2 := key q q1 hq
        have l1 := la q q1
        have l2 := lb p p1
        omega
  · have hb : ¬ B j < 1000000 := fun z => ha ((h j hj).1.mpr z)
    exact Or.inl ⟨by omega, by omega⟩
theorem sa_fin0 {A B : Nat → Nat} {N : Nat} (h : sa_bad A B N) : tn_v A N ≠ tn_v B N := by
  intro e
  have ok := ys_ok_v.mpr e
  rcases h with ⟨j, hj, hn⟩ | ⟨i, j, hi, hj, a1, b1, a2, b2, hn⟩
  · apply hn
    rcases ok j hj with q | q
    · exact ⟨fun z => by omega, fun z => by omega⟩
    · exact ⟨fun _ => q.2.1, fun _ => q.1⟩
  · apply hn
    rw [sa_eq a1 b1 a2 b2]
    have la1 := tn_mn_lb A N i hi
    have lb1 := tn_mn_lb B N i hi
    have la2 := tn_mn_lb A N j hj
    have lb2 := tn_mn_lb B N j hj
    rcases ok i hi with q | q
    · omega
    · rcases ok j hj with q' | q'
      · omega
      · omega
section
variable {f_drafted f_patternHeight f_rules f_nodes f_treeHeight f_isLaid f_entries f_stateCount f_isWhole f_tooMany f_trialLeast f_covered f_works f_fromStates f_whereFirst f_whereSecond : Int32} {a_draft a_patternBegin a_left a_ruleCost a_ruleSize a_rulePart a_operator a_firstPart a_secondPart a_stack a_treeBegin a_helperOperator a_helperFirst a_helperSecond a_chainFrom a_openParts a_stateCost a_leafState a_leafAdd a_oneState a_oneAdd a_twoState a_twoAdd a_trial a_nodeCost a_nodeWays a_cover a_workEntry a_workNode a_nodeState a_nodeBase : Nat → Int32} {g_noted g_depth g_rules g_planted g_trees g_stateCount g_known g_listed : Int32} {b_marks b_sizes b_lefts b_costs b_lengths b_operators b_spans b_least b_ways b_tasks b_list : Nat → Int32} {c : tc_C} {op sp rt : Nat → Nat} {tn : Nat}
theorem sa_133 {post : Int32 → SX → Prop} {J : Int32 → Int32 → Int32 → Prop} {x1 x2 s x8 G : Int32} {a b k : Nat} (hs : s = 0 ∨ s = 1) (ha : a ≤ 1000000) (hb : b ≤ 1000000)
    (h0 : s = 0 → J G 0 (nI (k + 1))) (hT : s = 1 → (a < 1000000 ↔ b < 1000000) → (x8 = 0 ∨ nI a - nI b = G) → J G 1 (nI (k + 1))) (hF1 : s = 1 → ¬ (a < 1000000 ↔ b < 1000000) → J G 0 (nI (k + 1))) (hF2 : s = 1 → ¬ x8 = 0 → ¬ nI a - nI b = G → J G 0 (nI (k + 1))) :
    wX_alike_133 post J x1 x2 s (nI k) (nI a) (nI b) x8 G f_drafted f_patternHeight f_rules f_nodes f_treeHeight f_isLaid f_entries f_stateCount f_isWhole f_tooMany f_trialLeast f_covered f_works f_fromStates f_whereFirst f_whereSecond a_draft a_patternBegin a_left a_ruleCost a_ruleSize a_rulePart a_operator a_firstPart a_secondPart a_stack a_treeBegin a_helperOperator a_helperFirst a_helperSecond a_chainFrom a_openParts a_stateCost a_leafState a_leafAdd a_oneState a_oneAdd a_twoState a_twoAdd a_trial a_nodeCost a_nodeWays a_cover a_workEntry a_workNode a_nodeState a_nodeBase := by
  rcases hs with e | e
  · exact br_t e (nm_r (nI_1 k) (h0 e))
  · have t163 : (a < 1000000 ↔ b < 1000000) → ∀ z0 : Int32, wX_alike_163 post J x1 x2 G (nI k) (nI a) (nI b) x8 z0 z0 f_drafted f_patternHeight f_rules f_nodes f_treeHeight f_isLaid f_entries f_stateCount f_isWhole f_tooMany f_trialLeast f_covered f_works f_fromStates f_whereFirst f_whereSecond a_draft a_patternBegin a_left a_ruleCost a_ruleSize a_rulePart a_operator a_firstPart a_secondPart a_stack a_treeBegin a_helperOperator a_helperFirst a_helperSecond a_chainFrom a_openParts a_stateCost a_leafState a_leafAdd a_oneState a_oneAdd a_twoState a_twoAdd a_trial a_nodeCost a_nodeWays a_cover a_workEntry a_workNode a_nodeState a_nodeBase := fun hh z0 =>
      br_t rfl (br_c (fun q => nm_r (nI_1 k) (hT e hh (Or.inl q))) (fun q => br_c (fun q' => nm_r (nI_1 k) (hT e hh (Or.inr q'))) (fun q' => nm_r (nI_1 k) (hF2 e q q'))))
    refine br_f (by rw [e]; decide) (pk_le 1000000 a (fun h1 => pk_le 1000000 b (fun h2 => t163 ⟨fun z => by omega, fun z => by omega⟩ 0) (fun h2 => br_f (by decide) (nm_r (nI_1 k) (hF1 e (fun hh => ?_))))) (fun h1 => pk_le 1000000 b (fun h2 => br_f (by decide) (nm_r (nI_1 k) (hF1 e (fun hh => ?_)))) (fun h2 => t163 ⟨fun _ => h2, fun _ => h1⟩ 1)))
    · have := hh.mpr h2; omega
    · have := hh.mp h1; omega
theorem sa_65 {post : Int32 → SX → Prop} {na nb N : Nat} {A B : Nat → Nat} (hN : N ≤ 74) (hna : na < 24) (hnb : nb < 24) (hA : ∀ e, e < N → a_nodeCost (74 * na + e) = nI (A e)) (hB : ∀ e, e < N → a_nodeCost (74 * nb + e) = nI (B e)) (lA : ∀ e, A e ≤ 1000000) (lB : ∀ e, B e ≤ 1000000)
    (K1 : tn_v A N = tn_v B N → post 1 (f_drafted, f_patternHeight, f_rules, f_nodes, f_treeHeight, f_isLaid, nI N, f_stateCount, f_isWhole, f_tooMany, f_trialLeast, f_covered, f_works, f_fromStates, f_whereFirst, f_whereSecond, a_draft, a_patternBegin, a_left, a_ruleCost, a_ruleSize, a_rulePart, a_operator, a_firstPart, a_secondPart, a_stack, a_treeBegin, a_helperOperator, a_helperFirst, a_helperSecond, a_chainFrom, a_openParts, a_stateCost, a_leafState, a_leafAdd, a_oneState, a_oneAdd, a_twoState, a_twoAdd, a_trial, a_nodeCost, a_nodeWays, a_cover, a_workEntry, a_workNode, a_nodeState, a_nodeBase)) (K0 : tn_v A N ≠ tn_v B N → post 0 (f_drafted, f_patternHeight, f_rules, f_nodes, f_treeHeight, f_isLaid, nI N, f_stateCount, f_isWhole, f_tooMany, f_trialLeast, f_covered, f_works, f_fromStates, f_whereFirst, f_whereSecond, a_draft, a_patternBegin, a_left, a_ruleCost, a_ruleSize, a_rulePart, a_operator, a_firstPart, a_secondPart, a_stack, a_treeBegin, a_helperOperator, a_helperFirst, a_helperSecond, a_chainFrom, a_openParts, a_stateCost, a_leafState, a_leafAdd, a_oneState, a_oneAdd, a_twoState, a_twoAdd, a_trial, a_nodeCost, a_nodeWays, a_cover, a_workEntry, a_workNode, a_nodeState, a_nodeBase)) :
    ∀ d k, k + d = N → ∀ G s : Int32, sa_g A B k G → sa_s A B N k G s → ∀ f, d < f → wX_alike_65 post (nI na) (nI nb) f_drafted f_patternHeight f_rules f_nodes f_treeHeight f_isLaid (nI N) f_stateCount f_isWhole f_tooMany f_trialLeast f_covered f_works f_fromStates f_whereFirst f_whereSecond a_draft a_patternBegin a_left a_ruleCost a_ruleSize a_rulePart a_operator a_firstPart a_secondPart a_stack a_treeBegin a_helperOperator a_helperFirst a_helperSecond a_chainFrom a_openParts a_stateCost a_leafState a_leafAdd a_oneState a_oneAdd a_twoState a_twoAdd a_trial a_nodeCost a_nodeWays a_cover a_workEntry a_workNode a_nodeState a_nodeBase f G s (nI k) := by
  intro d
  induction d with
  | zero =>
    intro k hk G s Jg Js f hf
    obtain ⟨f, rfl⟩ : ∃ m, f = m + 1 := ⟨f - 1, by omega⟩
    have ek : k = N := by omega
    subst ek
    refine pk_le k k (fun _ => ?_) (fun z => by omega)
    rcases Js with ⟨s1, s2⟩ | ⟨s1, s2⟩
    · subst s1; exact ⟨rfl, K1 (sa_fin1 s2)⟩
    · subst s1; exact ⟨rfl, K0 (sa_fin0 s2)⟩
  | succ d ih =>
    intro k hk G s Jg Js f hf
    obtain ⟨f, rfl⟩ : ∃ m, f = m + 1 := ⟨f - 1, by omega⟩
    have la := lA k
    have lb := lB k
    have hs : s = 0 ∨ s = 1 := by
      rcases Js with ⟨s1, -⟩ | ⟨s1, -⟩
      · exact Or.inr s1
      · exact Or.inl s1
    have bad : s = 0 → sa_bad A B N := fun e => by
      rcases Js with ⟨s1, -⟩ | ⟨-, s2⟩
      · rw [e] at s1; exact absurd s1 (by decide)
      · exact s2
    have good : s = 1 → ∀ e, e < k → (A e < 1000000 ↔ B e < 1000000) ∧ (A e < 1000000 → B e < 1000000 → nI (A e) - nI (B e) = G) := fun e => by
      rcases Js with ⟨-, s2⟩ | ⟨s1, -⟩
      · exact s2
      · rw [e] at s1; exact absurd s1 (by decide)
    have nx := fun G' s' (q : sa_g A B (k + 1) G') (q' : sa_s A B N (k + 1) G' s') => ih (k + 1) (by omega) G' s' q q' f (by omega)
    -- not both
    have nb1 : ¬ (A k < 1000000 ∧ B k < 1000000) → wX_alike_133 post (wX_alike_65 post (nI na) (nI nb) f_drafted f_patternHeight f_rules f_nodes f_treeHeight f_isLaid (nI N) f_stateCount f_isWhole f_tooMany f_trialLeast f_covered f_works f_fromStates f_whereFirst f_whereSecond a_draft a_patternBegin a_left a_ruleCost a_ruleSize a_rulePart a_operator a_firstPart a_secondPart a_stack a_treeBegin a_helperOperator a_helperFirst a_helperSecond a_chainFrom a_openParts a_stateCost a_leafState a_leafAdd a_oneState a_oneAdd a_twoState a_twoAdd a_trial a_nodeCost a_nodeWays a_cover a_workEntry a_workNode a_nodeState a_nodeBase f) (nI na) (nI nb) s (nI k) (nI (A k)) (nI (B k)) 0 G f_drafted f_patternHeight f_rules f_nodes f_treeHeight f_isLaid (nI N) f_stateCount f_isWhole f_tooMany f_trialLeast f_covered f_works f_fromStates f_whereFirst f_whereSecond a_draft a_patternBegin a_left a_ruleCost a_ruleSize a_rulePart a_operator a_firstPart a_secondPart a_stack a_treeBegin a_helperOperator a_helperFirst a_helperSecond a_chainFrom a_openParts a_stateCost a_leafState a_leafAdd a_oneState a_oneAdd a_twoState a_twoAdd a_trial a_nodeCost a_nodeWays a_cover a_workEntry a_workNode a_nodeState a_nodeBase := by
      intro hn
      have g' : sa_g A B (k + 1) G := by
        rcases Jg with ⟨g1, g2⟩ | ⟨e, g1, g2⟩
        · refine Or.inl ⟨g1, fun e he => ?_⟩
          by_cases z : e = k
          · rw [z]; exact hn
          · exact g2 e (by omega)
        · exact Or.inr ⟨e, by omega, g2⟩
      refine sa_133 hs la lb (fun e => nx G 0 g' (Or.inr ⟨rfl, bad e⟩)) (fun e hh _ => nx G 1 g' (Or.inl ⟨rfl, fun i hi => ?_⟩)) (fun e hh => nx G 0 g' (Or.inr ⟨rfl, Or.inl ⟨k, by omega, hh⟩⟩)) (fun _ q _ => absurd rfl q)
      by_cases z : i = k
      · rw [z]; exact ⟨hh, fun q q' => absurd ⟨q, q'⟩ hn⟩
      · exact good e i (by omega)
    -- both
    have bt1 : A k < 1000000 → B k < 1000000 → ∀ G', (G = 1000000 → G' = nI (A k) - nI (B k)) → (¬ G = 1000000 → G' = G) → wX_alike_133 post (wX_alike_65 post (nI na) (nI nb) f_drafted f_patternHeight f_rules f_nodes f_treeHeight f_isLaid (nI N) f_stateCount f_isWhole f_tooMany f_trialLeast f_covered f_works f_fromStates f_whereFirst f_whereSecond a_draft a_patternBegin a_left a_ruleCost a_ruleSize a_rulePart a_operator a_firstPart a_secondPart a_stack a_treeBegin a_helperOperator a_helperFirst a_helperSecond a_chainFrom a_openParts a_stateCost a_leafState a_leafAdd a_oneState a_oneAdd a_twoState a_twoAdd a_trial a_nodeCost a_nodeWays a_cover a_workEntry a_workNode a_nodeState a_nodeBase f) (nI na) (nI nb) s (nI k) (nI (A k)) (nI (B k)) 1 G' f_drafted f_patternHeight f_rules f_nodes f_treeHeight f_isLaid (nI N) f_stateCount f_isWhole f_tooMany f_trialLeast f_covered f_works f_fromStates f_whereFirst f_whereSecond a_draft a_patternBegin a_left a_ruleCost a_ruleSize a_rulePart a_operator a_firstPart a_secondPart a_stack a_treeBegin a_helperOperator a_helperFirst a_helperSecond a_chainFrom a_openParts a_stateCost a_leafState a_leafAdd a_oneState a_oneAdd a_twoState a_twoAdd a_trial a_nodeCost a_nodeWays a_cover a_workEntry a_workNode a_nodeState a_nodeBase := by
      intro ha hb G' h1 h2
      have g' : sa_g A B (k + 1) G' := by
        rcases Jg with ⟨g1, g2⟩ | ⟨e, g1, g2, g3, g4⟩
        · exact Or.inr ⟨k, by omega, ha, hb, h1 g1⟩
        · exact Or.inr ⟨e, by omega, g2, g3, (h2 (by rw [g4]; exact sa_ne g2 g3)).trans g4⟩
      refine sa_133 hs la lb (fun e => nx G' 0 g' (Or.inr ⟨rfl, bad e⟩)) (fun e hh hq => nx G' 1 g' (Or.inl ⟨rfl, fun i hi => ?_⟩)) (fun e hh => absurd ⟨fun _ => hb, fun _ => ha⟩ hh) (fun e _ hq => nx G' 0 g' (Or.inr ⟨rfl, Or.inr ?_⟩))
      · by_cases z : i = k
        · rw [z]
          exact ⟨hh, fun _ _ => hq.resolve_left (by decide)⟩
        · obtain ⟨q1, q2⟩ := good e i (by omega)
          refine ⟨q1, fun p1 p2 => ?_⟩
          rcases Jg with ⟨g1, g2⟩ | ⟨e0, g1, g2, g3, g4⟩
          · exact absurd ⟨p1, p2⟩ (g2 i (by omega))
          · rw [h2 (by rw [g4]; exact sa_ne g2 g3)]; exact q2 p1 p2
      · rcases Jg with ⟨g1, g2⟩ | ⟨e0, g1, g2, g3, g4⟩
        · exact absurd (h1 g1).symm hq
        · have e2 := h2 (by rw [g4]; exact sa_ne g2 g3)
          exact ⟨k, e0, by omega, by omega, ha, hb, g2, g3, fun q => hq (by rw [q, e2, g4])⟩
    refine pk_le N k (fun z => by omega) (fun _ => xs_cost (n := na) (e := k) hna (by omega) rfl rfl (hA k (by omega)) (xs_cost (n := nb) (e := k) hnb (by omega) rfl rfl (hB k (by omega)) ?_))
    refine pk_le 1000000 (A k) (fun h1 => br_t rfl (nb1 (fun q => by omega))) (fun h1 => pk_le 1000000 (B k) (fun h2 => br_t rfl (nb1 (fun q => by omega))) (fun h2 => br_f (by decide) (br_c (fun q => bt1 h1 h2 _ (fun _ => rfl) (fun q' => absurd q q')) (fun q => bt1 h1 h2 _ (fun q' => absurd q' q) (fun _ => rfl)))))
end
theorem i_vc_alike {k : Nat} {u : SX} {v : SY} (I : i_Rel k u v) (hk : k + 3 ≤ 1536) : wpX_alike (fun r u' => wpY_alike (fun r' v' => r' = r ∧ i_Rel (k + 3) u' v') v) u := by
  refine rl_el (P := fun u v => wpX_alike (fun r u' => wpY_alike (fun r' v' => r' = r ∧ i_Rel (k + 3) u' v') v) u) I ?_
  intro f_drafted f_patternHeight f_rules f_nodes f_treeHeight f_isLaid f_entries f_stateCount f_isWhole f_tooMany f_trialLeast f_covered f_works f_fromStates f_whereFirst f_whereSecond a_draft a_patternBegin a_left a_ruleCost a_ruleSize a_rulePart a_operator a_firstPart a_secondPart a_stack a_treeBegin a_helperOperator a_helperFirst a_helperSecond a_chainFrom a_openParts a_stateCost a_leafState a_leafAdd a_oneState a_oneAdd a_twoState a_twoAdd a_trial a_nodeCost a_nodeWays a_cover a_workEntry a_workNode a_nodeState a_nodeBase g_noted g_depth g_rules g_planted g_trees g_stateCount g_known g_listed b_marks b_sizes b_lefts b_costs b_lengths b_operators b_spans b_least b_ways b_tasks b_list c op sp rt tn D C T H K V
  have C0 := C
  obtain ⟨rfl, rfl, c3, c4, c5⟩ := C
  have T0 := T
  obtain ⟨rfl, rfl, rfl, rfl, t5, t6, t7, t8, t9, t10⟩ := T
  have h24 := t5.1
  have hN := tc_N_le c3
  refine pk_le 2 (tc_ht op tn) (fun z => ?_) (fun z => br_f (nI_ge (b := 2) z (by decide)) ⟨rfl, rl_in D C0 T0 H K V⟩)
  obtain ⟨h, eh⟩ : ∃ h, tc_ht op tn = h + 2 := ⟨tc_ht op tn - 2, by omega⟩
  have e1 : nI (tc_ht op tn) - 1 = nI (h + 1) := by rw [eh, show h + 2 = h + 1 + 1 from rfl, nI_pred]
  have e2 : nI (tc_ht op tn) - 2 = nI h := by rw [eh]; exact pk_sub (a := h + 2) (b := 2) (by omega)
  have f1 : rt (h + 1) + 1 = tn := by have := t7.2.1; rw [eh] at this; exact this
  have f2 : rt (h + 1) + 1 = rt h + 1 + sp (rt (h + 1)) := (t7.1 (h + 1) (by omega)).2
  have f3 := (tt_rng t5 t7 (j := h) (by omega))
  have f4 := (tt_rng t5 t7 (j := h + 1) (by omega))
  have f5 := (t7.1 (h + 1) (by omega)).1
  refine sl_lab c3 c4 H t5 t6 t7 t8 t10 (pl := h + 1) (by omega) e1 (fun sc0 sv0 fw0 tm0 tl0 fs0 w10 w20 ho0 hf0 hs0 ch0 oq0 SC0 LS0 LA0 OS0 OA0 TS0 TA0 tr0 NC0 NS0 NB0 A0 T0' Wh0 Fw0 Cs0 Fr0 => ?_)
  refine sl_lab c3 c4 (sf_H A0 T0' Wh0) t5 t6 t7 t8 t10 (pl := h) (by omega) e2 (fun sc sv fw tm tl fs w1 w2 ho hf hs ch oq SC LS LA OS OA TS TA tr NC NS NB A T' Wh Fw Cs Fr' => ?_)
  have Fw1 : (f_isLaid = 0 ∧ fw = 0) ∨ (f_isLaid = 1 ∧ fw = f_isWhole) := by
    rcases Fw with ⟨w1, -⟩ | ⟨-, w2⟩
    · exact absurd w1 (by decide)
    · rw [w2]; exact Fw0
  refine ⟨by rw [e1]; exact vp_in_nI (by omega) (by decide), nm_r (e' := nI (rt (h + 1))) (by rw [e1, nI_clamp (by omega)]; exact (t10 _ (by omega)).1) ⟨by rw [e2]; exact vp_in_nI (by omega) (by decide), nm_r (e' := nI (rt h)) (by rw [e2, nI_clamp (by omega)]; exact (t10 _ (by omega)).1) ⟨tc_N c + 1, ?_⟩⟩⟩
  have g1 : tc_bg rt (h + 1) = rt h + 1 := rfl
  have Y : ∀ r : Int32, (tn_v (tt_A c op sp (rt (h + 1))) (tc_N c) = tn_v (tt_A c op sp (rt h)) (tc_N c) → 1 = r) → (tn_v (tt_A c op sp (rt (h + 1))) (tc_N c) ≠ tn_v (tt_A c op sp (rt h)) (tc_N c) → 0 = r) → wpY_alike (fun r' v' => r' = r ∧ i_Rel (k + 3) (f_drafted, f_patternHeight, nI (tc_nr c), nI tn, nI (tc_ht op tn), 1, nI (tc_N c), nI sc, fw, tm, tl, f_covered, f_works, fs, w1, w2, a_draft, a_patternBegin, a_left, a_ruleCost, a_ruleSize, a_rulePart, a_operator, a_firstPart, a_secondPart, a_stack, a_treeBegin, ho, hf, hs, ch, oq, SC, LS, LA, OS, OA, TS, TA, tr, NC, a_nodeWays, a_cover, a_workEntry, a_workNode, NS, NB) v') (g_noted, g_depth, nI (tc_nr c), nI tn, nI (tc_ht op tn), g_stateCount, g_known, g_listed, b_marks, b_sizes, b_lefts, b_costs, b_lengths, b_operators, b_spans, b_least, b_ways, b_tasks, b_list) := by
    intro r h1 h2
    have x1 : nI tn - 1 = nI (rt (h + 1)) := by rw [← f1, nI_pred]
    have x2 : nI (rt (h + 1)) - b_spans (nI (rt (h + 1))).toNatClampNeg = nI (rt h) := by
      rw [nI_clamp (by omega), (t9 (rt (h + 1)) (by omega)).2, pk_sub (by omega)]; exact congrArg nI (by omega)
    refine br_t (nI_le (a := 2) z (by omega)) (yt_work c3 c5 t5 t9 t6 (fun q => by omega) (fun _ L R Fr => ?_))
    have rel : i_Rel (k + 3) (f_drafted, f_patternHeight, nI (tc_nr c), nI tn, nI (tc_ht op tn), 1, nI (tc_N c), nI sc, fw, tm, tl, f_covered, f_works, fs, w1, w2, a_draft, a_patternBegin, a_left, a_ruleCost, a_ruleSize, a_rulePart, a_operator, a_firstPart, a_secondPart, a_stack, a_treeBegin, ho, hf, hs, ch, oq, SC, LS, LA, OS, OA, TS, TA, tr, NC, a_nodeWays, a_cover, a_workEntry, a_workNode, NS, NB) (g_noted, g_depth, nI (tc_nr c), nI tn, nI (tc_ht op tn), g_stateCount, g_known, g_listed, b_marks, b_sizes, b_lefts, b_costs, b_lengths, b_operators, b_spans, L, b_ways, b_tasks, b_list) := rl_in D ⟨rfl, rfl, c3, c4, c5⟩ T0 (sf_H A T' Wh) (rl_K_fr c3 K Fr) (rl_W_lay V Fw1)
    refine nm_r x1 ⟨vp_in_nI (by omega) (by decide), ?_⟩
    rw [x2]
    exact ys_same c3 c5 (n := rt (h + 1)) (m := rt h) (by omega) (by omega) (R _ (by omega)) (R _ (by omega)) (tt_A_le t5 (by omega)) (tt_A_le t5 (by omega)) (fun q => ⟨rfl, h1 q, rel⟩) (fun q => ⟨rfl, h2 q, rel⟩)
  refine sa_65 (na := rt (h + 1)) (nb := rt h) (A := tt_A c op sp (rt (h + 1))) (B := tt_A c op sp (rt h)) hN.2 (by omega) (by omega) (fun e he => ?_) (Cs (rt h) f3.2.1 (Nat.le_refl _)) (tt_A_le t5 (by omega)) (tt_A_le t5 (by omega)) (fun q => Y _ (fun _ => rfl) (fun q' => absurd q q')) (fun q => Y _ (fun q' => absurd q' q) (fun _ => rfl)) (tc_N c) 0 (by omega) 1000000 1 (Or.inl ⟨rfl, fun e he => absurd he (Nat.not_lt_zero _)⟩) (Or.inl ⟨rfl, fun e he => absurd he (Nat.not_lt_zero _)⟩) (tc_N c + 1) (by omega)
  rw [Fr' _ (by omega)]
  exact Cs0 (rt (h + 1)) f4.2.1 (Nat.le_refl _) e he
end
section
/-! ways: what is counted -/
noncomputable def wy_P (c : tc_C) (op sp : Nat → Nat) (Q : Nat → Nat → Int32) : Nat → Nat → Nat → Int32
  | 0, _, _ => 0
  | k + 1, n, p => if tc_mk c p < 10 then (if tc_mk c p = op n then (if op n < 2 then 1 else if op n < 4 then wy_P c op sp Q k (tt_x op sp n) (tc_fp c p) else wy_P c op sp Q k (tt_x op sp n) (tc_fp c p) * wy_P c op sp Q k (n - 1) (p - 1)) else 0) else Q n (tc_mk c p - 10)
noncomputable def wy_p (c : tc_C) (op sp : Nat → Nat) (Q : Nat → Nat → Int32) (n p : Nat) : Int32 := wy_P c op sp Q 7 n p
def wy_rt (c : tc_C) (r : Nat) : Nat := 7 * r + tc_rn c r - 1
def wy_B (c : tc_C) (op sp : Nat → Nat) (n g r : Nat) : Prop := tc_lf c r = g ∧ tt_A c op sp n (tc_cf c r) < 1000000 ∧ tt_A c op sp n (tc_cf c r) + tc_rc c r = tt_A c op sp n g
noncomputable def wy_S (c : tc_C) (op sp : Nat → Nat) (Q : Nat → Nat → Int32) (n g : Nat) : Nat → Int32
  | 0 => 0
  | r + 1 => @ite Int32 (wy_B c op sp n g r) (Classical.propDecidable _) (wy_S c op sp Q n g r + wy_p c op sp Q n (wy_rt c r)) (wy_S c op sp Q n g r)
def wy_F (c : tc_C) (op sp : Nat → Nat) (Q : Nat → Nat → Int32) (n : Nat) : Prop := ∀ g, g < 4 → Q n g = if tt_A c op sp n g < 1000000 then wy_S c op sp Q n g (tc_nr c) else 0
section
variable {c : tc_C} {op sp : Nat → Nat} {tn : Nat} {Q Q' : Nat → Nat → Int32}
theorem wy_S_t {n g r : Nat} (h : wy_B c op sp n g r) : wy_S c op sp Q n g (r + 1) = wy_S c op sp Q n g r + wy_p c op sp Q n (wy_rt c r) := @if_pos _ (Classical.propDecidable _) h _ _ _
theorem wy_S_f {n g r : Nat} (h : ¬ wy_B c op sp n g r) : wy_S c op sp Q n g (r + 1) = wy_S c op sp Q n g r := @if_neg _ (Classical.propDecidable _) h _ _ _
/-- the first part of a used operator -/
theorem tc_fp_us (W : tc_wf c) {p : Nat} (h : tc_us c p) (h2 : 2 ≤ tc_mk c p) (h10 : tc_mk c p < 10) : tc_us c (tc_fp c p) ∧ tc_sz c (tc_fp c p) < tc_sz c p ∧ (4 ≤ tc_mk c p → tc_us c (p - 1) ∧ tc_sz c (tc_fp c p) + tc_sz c (p - 1) + 1 = tc_sz c p) ∧ (tc_mk c p < 4 → tc_sz c (tc_fp c p) + 1 = tc_sz c p) := by
  obtain ⟨l1, l2, l3, l4, l5, l6, l7, l8⟩ := tc_loc W h
  unfold tc_fp
  by_cases z : tc_mk c p < 4
  · rw [if_pos z]
    have := l7 h2 z
    exact ⟨(l4 h2 h10).2, by omega, fun q => by omega, fun _ => by omega⟩
  · rw [if_neg z]
    have := l8 (by omega) h10
    have q := l5 (by omega) h10
    have q1 := (tc_loc W (l4 h2 h10).2).2.1
    exact ⟨q.2, by omega, fun _ => ⟨(l4 h2 h10).2, by omega⟩, fun q => by omega⟩
theorem wy_P_k (W : tc_wf c) : ∀ k k' n p, tc_us c p → tc_sz c p ≤ k → tc_sz c p ≤ k' → wy_P c op sp Q k n p = wy_P c op sp Q k' n p := by
  intro k
  induction k with
  | zero =>
    intro k' n p h h1 h2
    have := (tc_loc W h).2.1
    omega
  | succ k ih =>
    intro k' n p h h1 h2
    have h3 := (tc_loc W h).2.1
    obtain ⟨k', rfl⟩ : ∃ m, k' = m + 1 := ⟨k' - 1, by omega⟩
    unfold wy_P
    by_cases z : tc_mk c p < 10
    · rw [if_pos z, if_pos z]
      by_cases y : tc_mk c p = op n
      · rw [if_pos y, if_pos y]
        by_cases x : op n < 2
        · rw [if_pos x, if_pos x]
        · rw [if_neg x, if_neg x]
          obtain ⟨q1, q2, q3, q4⟩ := tc_fp_us W h (by omega) z
          rw [ih k' (tt_x op sp n) (tc_fp c p) q1 (by omega) (by omega)]
          by_cases w : op n < 4
          · rw [if_pos w, if_pos w]
          · obtain ⟨q5, q6⟩ := q3 (by omega)
            rw [if_neg w, if_neg w, ih k' (n - 1) (p - 1) q5 (by omega) (by omega)]
      · rw [if_neg y, if_neg y]
    · rw [if_neg z, if_neg z]
theorem wy_p_g {n p : Nat} (h : ¬ tc_mk c p < 10) : wy_p c op sp Q n p = Q n (tc_mk c p - 10) := by
  show (if _ then _ else _) = _
  rw [if_neg h]
theorem wy_p_n {n p : Nat} (h : tc_mk c p < 10) (h1 : tc_mk c p ≠ op n) : wy_p c op sp Q n p = 0 := by
  show (if _ then _ else _) = _
  rw [if_pos h, if_neg h1]
theorem wy_p_0 {n p : Nat} (h : tc_mk c p < 10) (h1 : tc_mk c p = op n) (h2 : op n < 2) : wy_p c op sp Q n p = 1 := by
  show (if _ then _ else _) = _
  rw [if_pos h, if_pos h1, if_pos h2]
theorem wy_p_1 (W : tc_wf c) {n p : Nat} (hu : tc_us c p) (h : tc_mk c p < 10) (h1 : tc_mk c p = op n) (h2 : 2 ≤ op n) (h4 : op n < 4) : wy_p c op sp Q n p = wy_p c op sp Q (tt_x op sp n) (tc_fp c p) := by
  obtain ⟨q1, q2, q3, q4⟩ := tc_fp_us W hu (by omega) h
  have l3 := (tc_loc W hu).2.2.1
  show (if _ then _ else _) = _
  rw [if_pos h, if_pos h1, if_neg (by omega), if_pos h4]
  exact wy_P_k W 6 7 _ _ q1 (by omega) (by omega)
theorem wy_p_2 (W : tc_wf c) {n p : Nat} (hu : tc_us c p) (h : tc_mk c p < 10) (h1 : tc_mk c p = op n) (h4 : 4 ≤ op n) : wy_p c op sp Q n p = wy_p c op sp Q (tt_x op sp n) (tc_fp c p) * wy_p c op sp Q (n - 1) (p - 1) := by
  obtain ⟨q1, q2, q3, q4⟩ := tc_fp_us W hu (by omega) h
  obtain ⟨q5, q6⟩ := q3 (by omega)
  have l3 := (tc_loc W hu).2.2.1
  show (if _ then _ else _) = _
  rw [if_pos h, if_pos h1, if_neg (by omega), if_neg (by omega), wy_P_k W 6 7 (tt_x op sp n) _ q1 (by omega) (by omega), wy_P_k W 6 7 (n - 1) _ q5 (by omega) (by omega)]
  rfl
theorem wy_P_x (W : tc_wf c) (F : tt_F op sp tn) {b0 top : Nat} (ht : top < tn) (hb : ∀ n, b0 ≤ n → n ≤ top → 2 ≤ op n → b0 ≤ tt_x op sp n) :
    ∀ k n p, tc_us c p → b0 ≤ n → n ≤ top → (¬ tc_mk c p < 10 → Q' n (tc_mk c p - 10) = Q n (tc_mk c p - 10)) → (∀ m, b0 ≤ m → m < n → ∀ h, h < 4 → Q' m h = Q m h) → wy_P c op sp Q' k n p = wy_P c op sp Q k n p := by
  intro k
  induction k with
  | zero => intro n p _ _ _ _ _; rfl
  | succ k ih =>
    intro n p hu h1 h2 hg hl
    unfold wy_P
    by_cases z : tc_mk c p < 10
    · rw [if_pos z, if_pos z]
      by_cases y : tc_mk c p = op n
      · rw [if_pos y, if_pos y]
        by_cases x : op n < 2
        · rw [if_pos x, if_pos x]
        · rw [if_neg x, if_neg x]
          obtain ⟨q1, q2, q3, q4⟩ := tc_fp_us W hu (by omega) z
          have hx := tt_x_lt F (show n < tn by omega) (by omega)
          have hbx := hb n h1 h2 (by omega)
          rw [ih (tt_x op sp n) (tc_fp c p) q1 hbx (by omega) (fun w => hl _ hbx hx _ (by have := (tc_loc W q1).1; omega)) (fun m h3 h4 => hl m h3 (by omega))]
          by_cases w : op n < 4
          · rw [if_pos w, if_pos w]
          · obtain ⟨q5, q6⟩ := q3 (by omega)
            have hn1 := (tt_loc F (show n < tn by omega)).2.2.2.1 (by omega)
            rw [if_neg w, if_neg w, ih (n - 1) (p - 1) q5 (by omega) (by omega) (fun w => hl _ (by omega) (by omega) _ (by have := (tc_loc W q5).1; omega)) (fun m h3 h4 => hl m h3 (by omega))]
      · rw [if_neg y, if_neg y]
    · rw [if_neg z, if_neg z]; exact hg z
/-- a best chain comes from a cheaper goal -/
theorem wy_B_lt (W : tc_wf c) {n g r : Nat} (hr : r < tc_nr c) (h : wy_B c op sp n g r) (hm : ¬ tc_mk c (wy_rt c r) < 10) : tc_mk c (wy_rt c r) - 10 < 4 ∧ tt_A c op sp n (tc_mk c (wy_rt c r) - 10) < tt_A c op sp n g := by
  obtain ⟨h1, h2, h3⟩ := h
  have w := (W.2 r hr).2.2.2.2.2.2
  have l := (tc_loc W (tc_us_rt W hr)).1
  have e : tc_cf c r = tc_mk c (wy_rt c r) - 10 := tc_en_go hm
  rw [e] at h3
  have : tc_rc c r ≠ 0 := fun z => hm (w z)
  refine ⟨?_, by omega⟩
  have : ¬ tc_mk c (7 * r + tc_rn c r - 1) < 10 := hm
  unfold wy_rt
  omega
theorem wy_S_x (W : tc_wf c) (F : tt_F op sp tn) {b0 top : Nat} (ht : top < tn) (hb : ∀ n, b0 ≤ n → n ≤ top → 2 ≤ op n → b0 ≤ tt_x op sp n) {n g : Nat} (h1 : b0 ≤ n) (h2 : n ≤ top) (hg : ∀ h, h < 4 → tt_A c op sp n h < tt_A c op sp n g → Q' n h = Q n h) (hl : ∀ m, b0 ≤ m → m < n → ∀ h, h < 4 → Q' m h = Q m h) :
    ∀ r, r ≤ tc_nr c → wy_S c op sp Q' n g r = wy_S c op sp Q n g r
  | 0, _ => rfl
  | r + 1, hr => by
    have ih := wy_S_x W F ht hb h1 h2 hg hl r (by omega)
    by_cases z : wy_B c op sp n g r
    · rw [wy_S_t z, wy_S_t z, ih]
      have e : wy_p c op sp Q' n (wy_rt c r) = wy_p c op sp Q n (wy_rt c r) := wy_P_x W F ht hb 7 n _ (tc_us_rt W (by omega)) h1 h2 (fun w => by
        obtain ⟨q1, q2⟩ := wy_B_lt W (by omega) z w
        exact hg _ q1 q2) hl
      rw [e]
    · rw [wy_S_f z, wy_S_f z, ih]
theorem wy_un (W : tc_wf c) (F : tt_F op sp tn) {b0 top : Nat} (ht : top < tn) (hb : ∀ n, b0 ≤ n → n ≤ top → 2 ≤ op n → b0 ≤ tt_x op sp n) (h1 : ∀ n, b0 ≤ n → n ≤ top → wy_F c op sp Q n) (h2 : ∀ n, b0 ≤ n → n ≤ top → wy_F c op sp Q' n) :
    ∀ n, b0 ≤ n → n ≤ top → ∀ g, g < 4 → Q' n g = Q n g := by
  intro n
  induction n using Nat.strongRecOn with
  | ind n ih =>
    intro hn1 hn2
    have key : ∀ v g, tt_A c op sp n g < v → g < 4 → Q' n g = Q n g := by
      intro v
      induction v with
      | zero => intro g h; omega
      | succ v ihv =>
        intro g hv hg
        rw [h1 n hn1 hn2 g hg, h2 n hn1 hn2 g hg]
        by_cases z : tt_A c op sp n g < 1000000
        · rw [if_pos z, if_pos z]
          exact wy_S_x W F ht hb hn1 hn2 (fun h hh hlt => ihv h (by omega) hh) (fun m m1 m2 => ih m m2 m1 (by omega)) _ (Nat.le_refl _)
        · rw [if_neg z, if_neg z]
    intro g hg
    exact key (tt_A c op sp n g + 1) g (by omega) hg
/-- a finite part fits the node; its own parts are finite below -/
theorem wy_fin (W : tc_wf c) (F : tt_F op sp tn) {n p : Nat} (hn : n < tn) (hp : tc_op c p) (hf : tt_A c op sp n (tc_en c p) < 1000000) :
    tc_mk c p = op n ∧ (2 ≤ op n → tt_A c op sp (tt_x op sp n) (tc_en c (tc_fp c p)) < 1000000) ∧ (4 ≤ op n → tt_A c op sp (n - 1) (tc_en c (p - 1)) < 1000000) := by
  rw [tt_A_st W F hn _ (tc_en_lt W hp.1), tc_st_h W _ _ _ hp] at hf
  unfold tc_hp at hf
  by_cases z : tc_mk c p = op n
  · rw [if_pos z] at hf
    refine ⟨z, fun h2 => ?_, fun h4 => ?_⟩
    · have e : tc_ha c (op n) (tt_a c op sp n) p = tt_A c op sp (tt_x op sp n) (tc_en c (tc_fp c p)) := by
        unfold tc_ha tt_a
        rw [if_pos h2, if_neg (by omega)]
      rw [e] at hf
      unfold tc_sm at hf
      split at hf
      · omega
      · omega
    · have e : tc_hb c (op n) (tt_b c op sp n) p = tt_A c op sp (n - 1) (tc_en c (p - 1)) := by
        unfold tc_hb tt_b
        rw [if_pos h4, if_neg (by omega)]
      rw [e] at hf
      unfold tc_sm at hf
      split at hf
      · omega
      · split at hf
        · assumption
        · omega
  · rw [if_neg z] at hf
    omega
theorem wy_best (W : tc_wf c) (F : tt_F op sp tn) {n g : Nat} (hn : n < tn) (hg : g < 4) (hf : tt_A c op sp n g < 1000000) : ∃ r, r < tc_nr c ∧ wy_B c op sp n g r := by
  have hN := tc_N_le W
  rw [tt_A_st W F hn g (by omega)] at hf
  obtain ⟨r, a, b, d, e⟩ := tr_best (fun r hr => (W.2 r hr).1) (fun g hg => tc_t0_g _ _ _ hg) hg hf
  refine ⟨r, a, b, ?_, ?_⟩
  · rw [tt_A_st W F hn _ (tc_cf_lt W a)]; exact d
  · rw [tt_A_st W F hn _ (tc_cf_lt W a), tt_A_st W F hn g (by omega)]; exact e
end
end
section
/-! X: addWork, addParts, helperWays, isBest, waysOf -/
def wk_S (c : tc_C) (WE WN : Nat → Int32) : List (Nat × Nat) → Prop
  | [] => True
  | x :: l => WE l.length = nI (ys_e c x.2) ∧ WN l.length = nI x.1 ∧ wk_S c WE WN l
theorem wk_S_up {c : tc_C} {WE WN : Nat → Int32} {k : Nat} {x y : Int32} : ∀ l : List (Nat × Nat), l.length ≤ k → wk_S c WE WN l → wk_S c (upd WE k x) (upd WN k y) l
  | [], _, _ => trivial
  | z :: l, h, hs => by
    have hl : l.length + 1 ≤ k := h
    refine ⟨?_, ?_, wk_S_up l (by omega) hs.2.2⟩
    · rw [pk_un (by omega)]; exact hs.1
    · rw [pk_un (by omega)]; exact hs.2.1
theorem wk_S_push {c : tc_C} {WE WN : Nat → Int32} {l : List (Nat × Nat)} {m i : Nat} {x y : Int32} (hs : wk_S c WE WN l) (hx : x = nI (ys_e c i)) (hy : y = nI m) : wk_S c (upd WE l.length x) (upd WN l.length y) ((m, i) :: l) :=
  ⟨by rw [pk_us]; exact hx, by rw [pk_us]; exact hy, wk_S_up l (Nat.le_refl _) hs⟩
def wk_pp (c : tc_C) (op sp : Nat → Nat) (m p : Nat) : List (Nat × Nat) := if tc_mk c p < 2 then [] else if tc_mk c p < 4 then [(tt_x op sp m, 4 + tc_fp c p)] else [(tt_x op sp m, 4 + tc_fp c p), (m - 1, 4 + (p - 1))]
theorem ys_e_4 {c : tc_C} (p : Nat) : ys_e c (4 + p) = tc_en c p := by
  unfold ys_e
  rw [if_neg (by omega), show 4 + p - 4 = p by omega]
section
variable {f_drafted f_patternHeight f_rules f_nodes f_treeHeight f_isLaid f_entries f_stateCount f_isWhole f_tooMany f_trialLeast f_covered f_works f_fromStates f_whereFirst f_whereSecond : Int32} {a_draft a_patternBegin a_left a_ruleCost a_ruleSize a_rulePart a_operator a_firstPart a_secondPart a_stack a_treeBegin a_helperOperator a_helperFirst a_helperSecond a_chainFrom a_openParts a_stateCost a_leafState a_leafAdd a_oneState a_oneAdd a_twoState a_twoAdd a_trial a_nodeCost a_nodeWays a_cover a_workEntry a_workNode a_nodeState a_nodeBase : Nat → Int32} {c : tc_C} {op sp : Nat → Nat} {tn : Nat}
theorem xa_work {post : SX → Prop} {wk : Nat} {x y : Int32} (hw : wk < 700) (K : post (f_drafted, f_patternHeight, f_rules, f_nodes, f_treeHeight, f_isLaid, f_entries, f_stateCount, f_isWhole, f_tooMany, f_trialLeast, f_covered, nI (wk + 1), f_fromStates, f_whereFirst, f_whereSecond, a_draft, a_patternBegin, a_left, a_ruleCost, a_ruleSize, a_rulePart, a_operator, a_firstPart, a_secondPart, a_stack, a_treeBegin, a_helperOperator, a_helperFirst, a_helperSecond, a_chainFrom, a_openParts, a_stateCost, a_leafState, a_leafAdd, a_oneState, a_oneAdd, a_twoState, a_twoAdd, a_trial, a_nodeCost, a_nodeWays, a_cover, upd a_workEntry wk x, upd a_workNode wk y, a_nodeState, a_nodeBase)) : wpX_addWork post (f_drafted, f_patternHeight, f_rules, f_nodes, f_treeHeight, f_isLaid, f_entries, f_stateCount, f_isWhole, f_tooMany, f_trialLeast, f_covered, nI wk, f_fromStates, f_whereFirst, f_whereSecond, a_draft, a_patternBegin, a_left, a_ruleCost, a_ruleSize, a_rulePart, a_operator, a_firstPart, a_secondPart, a_stack, a_treeBegin, a_helperOperator, a_helperFirst, a_helperSecond, a_chainFrom, a_openParts, a_stateCost, a_leafState, a_leafAdd, a_oneState, a_oneAdd, a_twoState, a_twoAdd, a_trial, a_nodeCost, a_nodeWays, a_cover, a_workEntry, a_workNode, a_nodeState, a_nodeBase) x y :=
  ⟨vp_in_nI hw (by decide), nm_r (tc_upc (by omega) rfl) ⟨vp_in_nI hw (by decide), nm_r (tc_upc (by omega) rfl) (nm_r (nI_1 wk) K)⟩⟩
theorem nI_n1 {m : Nat} (hm : m < 2 ^ 31) : ¬ nI m = -1 := fun q => by
  have h := nI_pos hm
  rw [q] at h
  exact h (by decide)
theorem xa_parts (W : tc_wf c) (A : xl_A c a_helperOperator a_helperFirst a_helperSecond a_chainFrom) (F : tt_F op sp tn) (Nd : xn_N op sp tn a_operator a_firstPart a_secondPart) {post : SX → Prop} {m p : Nat} {l : List (Nat × Nat)} (hm : m < tn) (hp : tc_op c p) (e : tc_mk c p = op m) (S : wk_S c a_workEntry a_workNode l) (hl : l.length + 2 ≤ 700)
    (K : ∀ WE WN : Nat → Int32, wk_S c WE WN (wk_pp c op sp m p ++ l) → post (f_drafted, f_patternHeight, f_rules, f_nodes, f_treeHeight, f_isLaid, f_entries, f_stateCount, f_isWhole, f_tooMany, f_trialLeast, f_covered, nI (wk_pp c op sp m p ++ l).length, f_fromStates, f_whereFirst, f_whereSecond, a_draft, a_patternBegin, a_left, a_ruleCost, a_ruleSize, a_rulePart, a_operator, a_firstPart, a_secondPart, a_stack, a_treeBegin, a_helperOperator, a_helperFirst, a_helperSecond, a_chainFrom, a_openParts, a_stateCost, a_leafState, a_leafAdd, a_oneState, a_oneAdd, a_twoState, a_twoAdd, a_trial, a_nodeCost, a_nodeWays, a_cover, WE, WN, a_nodeState, a_nodeBase)) :
    wpX_addParts post (f_drafted, f_patternHeight, f_rules, f_nodes, f_treeHeight, f_isLaid, f_entries, f_stateCount, f_isWhole, f_tooMany, f_trialLeast, f_covered, nI l.length, f_fromStates, f_whereFirst, f_whereSecond, a_draft, a_patternBegin, a_left, a_ruleCost, a_ruleSize, a_rulePart, a_operator, a_firstPart, a_secondPart, a_stack, a_treeBegin, a_helperOperator, a_helperFirst, a_helperSecond, a_chainFrom, a_openParts, a_stateCost, a_leafState, a_leafAdd, a_oneState, a_oneAdd, a_twoState, a_twoAdd, a_trial, a_nodeCost, a_nodeWays, a_cover, a_workEntry, a_workNode, a_nodeState, a_nodeBase) (nI (tc_en c p)) (nI m) := by
  have h24 := F.1
  obtain ⟨a1, a2, a3⟩ := A.1 p (tc_us_lt W hp.1).1 hp
  obtain ⟨n1, n2, n3⟩ := Nd m hm
  have hN := tc_N_le W
  have he := tc_en_lt W hp.1
  have i1 : vp_in (nI (tc_en c p)) 74 := vp_in_nI (by omega) (by decide)
  have i2 : vp_in (nI m) 24 := vp_in_nI (by omega) (by decide)
  have c1 : a_helperFirst (nI (tc_en c p)).toNatClampNeg = (if 2 ≤ tc_mk c p then nI (tc_en c (tc_fp c p)) else -1) := by rw [nI_clamp (by omega)]; exact a2
  have c2 : a_helperSecond (nI (tc_en c p)).toNatClampNeg = (if 4 ≤ tc_mk c p then nI (tc_en c (p - 1)) else -1) := by rw [nI_clamp (by omega)]; exact a3
  have c3 : a_firstPart (nI m).toNatClampNeg = (if op m < 2 then -1 else nI (tt_x op sp m)) := by rw [nI_clamp (by omega)]; exact n2
  have c4 : a_secondPart (nI m).toNatClampNeg = (if op m < 4 then -1 else nI (m - 1)) := by rw [nI_clamp (by omega)]; exact n3
  have n26 : ∀ (l' : List (Nat × Nat)) (WE WN : Nat → Int32), l'.length + 1 ≤ 700 → wk_S c WE WN l' → (if 2 ≤ tc_mk c p then (tt_x op sp m, 4 + tc_fp c p) :: l' else l') = wk_pp c op sp m p ++ l → wX_addParts_26 post (nI (tc_en c p)) (nI m) f_drafted f_patternHeight f_rules f_nodes f_treeHeight f_isLaid f_entries f_stateCount f_isWhole f_tooMany f_trialLeast f_covered (nI l'.length) f_fromStates f_whereFirst f_whereSecond a_draft a_patternBegin a_left a_ruleCost a_ruleSize a_rulePart a_operator a_firstPart a_secondPart a_stack a_treeBegin a_helperOperator a_helperFirst a_helperSecond a_chainFrom a_openParts a_stateCost a_leafState a_leafAdd a_oneState a_oneAdd a_twoState a_twoAdd a_trial a_nodeCost a_nodeWays a_cover WE WN a_nodeState a_nodeBase := by
    intro l' WE WN hl' S' el
    refine ⟨i1, ?_⟩
    by_cases z : 2 ≤ tc_mk c p
    · rw [if_pos z] at c1 el
      refine br_f (by rw [c1]; exact nI_n1 (by have := tc_en_lt W (tc_fp_us W hp.1 z hp.2).1; omega)) ⟨i1, i2, xa_work (by omega) ?_⟩
      have q := K (upd WE l'.length (a_helperFirst (nI (tc_en c p)).toNatClampNeg)) (upd WN l'.length (a_firstPart (nI m).toNatClampNeg)) (el ▸ wk_S_push (m := tt_x op sp m) (i := 4 + tc_fp c p) S' (by rw [ys_e_4]; exact c1) (by rw [c3, if_neg (by omega)]))
      rw [← el] at q
      exact q
    · rw [if_neg z] at c1 el
      subst el
      exact br_t c1 (K WE WN S')
  refine ⟨i1, ?_⟩
  by_cases z : 4 ≤ tc_mk c p
  · rw [if_pos z] at c2
    refine br_f (by rw [c2]; exact nI_n1 (by have := tc_en_lt W ((tc_fp_us W hp.1 (by omega) hp.2).2.2.1 z).1; omega)) ⟨i1, i2, xa_work (by omega) ?_⟩
    refine n26 ((m - 1, 4 + (p - 1)) :: l) _ _ ?_ (wk_S_push S (by rw [ys_e_4]; exact c2) (by rw [c4, if_neg (by omega)])) ?_
    · show l.length + 1 + 1 ≤ 700
      omega
    · unfold wk_pp
      rw [if_pos (by omega), if_neg (by omega), if_neg (by omega)]
      rfl
  · rw [if_neg z] at c2
    refine br_t c2 (n26 l _ _ (by omega) S ?_)
    unfold wk_pp
    by_cases y : 2 ≤ tc_mk c p
    · rw [if_pos y, if_neg (by omega), if_pos (by omega)]; rfl
    · rw [if_neg y, if_pos (by omega)]; rfl
/-- the ways in an array -/
def xw_Q (NW : Nat → Int32) : Nat → Nat → Int32 := fun n g => NW (4 * n + g)
noncomputable def wk_w (c : tc_C) (op sp : Nat → Nat) (Q : Nat → Nat → Int32) (x : Nat × Nat) : Int32 := if x.2 < 4 then Q x.1 x.2 else wy_p c op sp Q x.1 (x.2 - 4)
noncomputable def wk_m (c : tc_C) (op sp : Nat → Nat) (Q : Nat → Nat → Int32) : List (Nat × Nat) → Int32
  | [] => 1
  | x :: l => wk_w c op sp Q x * wk_m c op sp Q l
def wk_z (c : tc_C) : List (Nat × Nat) → Nat
  | [] => 0
  | x :: l => (if x.2 < 4 then 1 else tc_sz c (x.2 - 4)) + wk_z c l
def wk_V (c : tc_C) (op sp : Nat → Nat) (b0 top : Nat) : List (Nat × Nat) → Prop
  | [] => True
  | x :: l => ys_u c x.2 ∧ b0 ≤ x.1 ∧ x.1 ≤ top ∧ tt_A c op sp x.1 (ys_e c x.2) < 1000000 ∧ wk_V c op sp b0 top l
theorem wk_z_len (W : tc_wf c) {b0 top : Nat} : ∀ l : List (Nat × Nat), wk_V c op sp b0 top l → l.length ≤ wk_z c l
  | [], _ => Nat.le_refl _
  | x :: l, h => by
    have ih := wk_z_len W l h.2.2.2.2
    have : 1 ≤ (if x.2 < 4 then 1 else tc_sz c (x.2 - 4)) := by
      rcases h.1 with z | z
      · rw [if_pos z]; exact Nat.le_refl _
      · rw [if_neg (by omega)]; exact (tc_loc W z.2).2.1
    show l.length + 1 ≤ _ + wk_z c l
    omega
/-- taking a helper apart keeps the product -/
theorem wk_pp_ok (W : tc_wf c) (F : tt_F op sp tn) {Q : Nat → Nat → Int32} {b0 top m p : Nat} {l : List (Nat × Nat)} (ht : top < tn) (hb : ∀ n, b0 ≤ n → n ≤ top → 2 ≤ op n → b0 ≤ tt_x op sp n) (h1 : b0 ≤ m) (h2 : m ≤ top) (hp : tc_op c p) (hf : tt_A c op sp m (tc_en c p) < 1000000) (V : wk_V c op sp b0 top l) :
    wk_V c op sp b0 top (wk_pp c op sp m p ++ l) ∧ wk_z c (wk_pp c op sp m p ++ l) + 1 = tc_sz c p + wk_z c l ∧ wk_m c op sp Q (wk_pp c op sp m p ++ l) = wy_p c op sp Q m p * wk_m c op sp Q l ∧ (wk_pp c op sp m p).length ≤ 2 := by
  obtain ⟨f1, f2, f3⟩ := wy_fin W F (show m < tn by omega) hp hf
  obtain ⟨l1, l2, l3, l4, l5, l6, l7, l8⟩ := tc_loc W hp.1
  unfold wk_pp
  by_cases z : tc_mk c p < 2
  · rw [if_pos z, wy_p_0 hp.2 f1 (by omega)]
    refine ⟨V, ?_, (Int32.one_mul _).symm, Nat.zero_le _⟩
    show wk_z c l + 1 = _
    rw [l6 (Or.inl z)]; omega
  · rw [if_neg z]
    obtain ⟨q1, q2, q3, q4⟩ := tc_fp_us W hp.1 (by omega) hp.2
    have hx := tt_x_lt F (show m < tn by omega) (by omega)
    have hbx := hb m h1 h2 (by omega)
    have u1 : ys_u c (4 + tc_fp c p) := Or.inr ⟨by omega, by rw [show 4 + tc_fp c p - 4 = tc_fp c p by omega]; exact q1⟩
    have g1 : tt_A c op sp (tt_x op sp m) (ys_e c (4 + tc_fp c p)) < 1000000 := by rw [ys_e_4]; exact f2 (by omega)
    have w1 : wk_w c op sp Q (tt_x op sp m, 4 + tc_fp c p) = wy_p c op sp Q (tt_x op sp m) (tc_fp c p) := by
      unfold wk_w
      rw [if_neg (by show ¬ 4 + tc_fp c p < 4; omega)]
      show wy_p c op sp Q (tt_x op sp m) (4 + tc_fp c p - 4) = _
      rw [show 4 + tc_fp c p - 4 = tc_fp c p by omega]
    have s1 : (if 4 + tc_fp c p < 4 then 1 else tc_sz c (4 + tc_fp c p - 4)) = tc_sz c (tc_fp c p) := by rw [if_neg (by omega), show 4 + tc_fp c p - 4 = tc_fp c p by omega]
    by_cases y : tc_mk c p < 4
    · rw [if_pos y, wy_p_1 W hp.1 hp.2 f1 (by omega) (by omega)]
      refine ⟨⟨u1, hbx, by show tt_x op sp m ≤ top; omega, g1, V⟩, ?_, ?_, by show 1 ≤ 2; omega⟩
      · show (if 4 + tc_fp c p < 4 then 1 else tc_sz c (4 + tc_fp c p - 4)) + wk_z c l + 1 = _
        rw [s1]
        have := q4 y
        omega
      · show wk_w c op sp Q (tt_x op sp m, 4 + tc_fp c p) * wk_m c op sp Q l = _
        rw [w1]
    · rw [if_neg y, wy_p_2 W hp.1 hp.2 f1 (by omega)]
      obtain ⟨q5, q6⟩ := q3 (by omega)
      have hn1 := (tt_loc F (show m < tn by omega)).2.2.2.1 (by omega)
      have u2 : ys_u c (4 + (p - 1)) := Or.inr ⟨by omega, by rw [show 4 + (p - 1) - 4 = p - 1 by omega]; exact q5⟩
      have g2 : tt_A c op sp (m - 1) (ys_e c (4 + (p - 1))) < 1000000 := by rw [ys_e_4]; exact f3 (by omega)
      have w2 : wk_w c op sp Q (m - 1, 4 + (p - 1)) = wy_p c op sp Q (m - 1) (p - 1) := by
        unfold wk_w
        rw [if_neg (by show ¬ 4 + (p - 1) < 4; omega)]
        show wy_p c op sp Q (m - 1) (4 + (p - 1) - 4) = _
        rw [show 4 + (p - 1) - 4 = p - 1 by omega]
      have s2 : (if 4 + (p - 1) < 4 then 1 else tc_sz c (4 + (p - 1) - 4)) = tc_sz c (p - 1) := by rw [if_neg (by omega), show 4 + (p - 1) - 4 = p - 1 by omega]
      refine ⟨⟨u1, hbx, by show tt_x op sp m ≤ top; omega, g1, u2, by show b0 ≤ m - 1; omega, by show m - 1 ≤ top; omega, g2, V⟩, ?_, ?_, by show 2 ≤ 2; omega⟩
      · show (if 4 + tc_fp c p < 4 then 1 else tc_sz c (4 + tc_fp c p - 4)) + ((if 4 + (p - 1) < 4 then 1 else tc_sz c (4 + (p - 1) - 4)) + wk_z c l) + 1 = _
        rw [s1, s2]
        omega
      · show wk_w c op sp Q (tt_x op sp m, 4 + tc_fp c p) * (wk_w c op sp Q (m - 1, 4 + (p - 1)) * wk_m c op sp Q l) = _
        rw [w1, w2, Int32.mul_assoc]
theorem ys_e_ge {i : Nat} (W : tc_wf c) (hu : ys_u c i) (h : 4 ≤ ys_e c i) : 4 ≤ i ∧ tc_op c (i - 4) ∧ ys_e c i = tc_en c (i - 4) := by
  have hi : ¬ i < 4 := fun z => by
    rw [show ys_e c i = i from if_pos z] at h
    omega
  have e : ys_e c i = tc_en c (i - 4) := if_neg hi
  have u := (hu.resolve_left hi).2
  refine ⟨by omega, ⟨u, ?_⟩, e⟩
  rw [e] at h
  by_cases z : tc_mk c (i - 4) < 10
  · exact z
  · have := tc_en_go4 W u z
    omega
theorem wk_w_g {Q : Nat → Nat → Int32} {m i : Nat} (W : tc_wf c) (hu : ys_u c i) (h : ys_e c i < 4) : wk_w c op sp Q (m, i) = Q m (ys_e c i) := by
  unfold wk_w
  by_cases z : i < 4
  · rw [if_pos (show (m, i).2 < 4 from z), show ys_e c i = i from if_pos z]
  · rw [if_neg (show ¬ (m, i).2 < 4 from z)]
    have e : ys_e c i = tc_en c (i - 4) := if_neg z
    rw [e] at h ⊢
    have y : ¬ tc_mk c (i - 4) < 10 := fun y => by
      have := tc_en_op4 (c := c) ⟨(hu.resolve_left z).2, y⟩
      omega
    show wy_p c op sp Q m (i - 4) = _
    rw [wy_p_g y, tc_en_go y]
theorem xw_16 (W : tc_wf c) (R : xl_R c a_left a_ruleCost a_ruleSize a_rulePart) (A : xl_A c a_helperOperator a_helperFirst a_helperSecond a_chainFrom) (F : tt_F op sp tn) (Nd : xn_N op sp tn a_operator a_firstPart a_secondPart) {b0 top : Nat} (ht : top < tn) (hb : ∀ n, b0 ≤ n → n ≤ top → 2 ≤ op n → b0 ≤ tt_x op sp n) {post : Int32 → SX → Prop} {tot : Int32}
    (K : ∀ (wk : Int32) (WE WN : Nat → Int32), post tot (f_drafted, f_patternHeight, f_rules, f_nodes, f_treeHeight, f_isLaid, f_entries, f_stateCount, f_isWhole, f_tooMany, f_trialLeast, f_covered, wk, f_fromStates, f_whereFirst, f_whereSecond, a_draft, a_patternBegin, a_left, a_ruleCost, a_ruleSize, a_rulePart, a_operator, a_firstPart, a_secondPart, a_stack, a_treeBegin, a_helperOperator, a_helperFirst, a_helperSecond, a_chainFrom, a_openParts, a_stateCost, a_leafState, a_leafAdd, a_oneState, a_oneAdd, a_twoState, a_twoAdd, a_trial, a_nodeCost, a_nodeWays, a_cover, WE, WN, a_nodeState, a_nodeBase)) :
    ∀ d (l : List (Nat × Nat)) (pr : Int32) (k : Nat) (WE WN : Nat → Int32), wk_z c l ≤ d → k + wk_z c l ≤ 20 → wk_V c op sp b0 top l → wk_S c WE WN l → pr * wk_m c op sp (xw_Q a_nodeWays) l = tot → ∀ f, d < f → wX_helperWays_16 post f pr (nI k) f_drafted f_patternHeight f_rules f_nodes f_treeHeight f_isLaid f_entries f_stateCount f_isWhole f_tooMany f_trialLeast f_covered (nI l.length) f_fromStates f_whereFirst f_whereSecond a_draft a_patternBegin a_left a_ruleCost a_ruleSize a_rulePart a_operator a_firstPart a_secondPart a_stack a_treeBegin a_helperOperator a_helperFirst a_helperSecond a_chainFrom a_openParts a_stateCost a_leafState a_leafAdd a_oneState a_oneAdd a_twoState a_twoAdd a_trial a_nodeCost a_nodeWays a_cover WE WN a_nodeState a_nodeBase := by
  have h24 := F.1
  intro d
  induction d with
  | zero =>
    intro l pr k WE WN hz hk V S hp f hf
    obtain ⟨f, rfl⟩ : ∃ m, f = m + 1 := ⟨f - 1, by omega⟩
    have := wk_z_len W l V
    cases l with
    | nil =>
      have e : pr = tot := by rw [← hp]; exact (Int32.mul_one _).symm
      subst e
      exact pk_le 20 k (fun _ => K _ _ _) (fun _ => br_t (by decide) (K _ _ _))
    | cons x l =>
      have : l.length + 1 ≤ wk_z c (x :: l) := this
      omega
  | succ d ih =>
    intro l pr k WE WN hz hk V S hp f hf
    obtain ⟨f, rfl⟩ : ∃ m, f = m + 1 := ⟨f - 1, by omega⟩
    cases l with
    | nil =>
      have e : pr = tot := by rw [← hp]; exact (Int32.mul_one _).symm
      subst e
      exact pk_le 20 k (fun _ => K _ _ _) (fun _ => br_t (by decide) (K _ _ _))
    | cons x l =>
      obtain ⟨m, i⟩ := x
      have hlen := wk_z_len W ((m, i) :: l) V
      have hlen' : l.length + 1 ≤ wk_z c ((m, i) :: l) := hlen
      obtain ⟨v1, v2, v3, v4, v5⟩ := V
      obtain ⟨s1, s2, s3⟩ := S
      dsimp only at v1 v2 v3 v4 s1 s2
      have hN := tc_N_le W
      have e1 : nI (((m, i) :: l).length) - 1 = nI l.length := nI_pred l.length
      have i7 : vp_in (nI l.length) 700 := vp_in_nI (by omega) (by decide)
      have c1 : WE (nI l.length).toNatClampNeg = nI (ys_e c i) := by rw [nI_clamp (by omega)]; exact s1
      have c2 : WN (nI l.length).toNatClampNeg = nI m := by rw [nI_clamp (by omega)]; exact s2
      have ye : ys_e c i < 74 := by
        rcases v1 with z | z
        · rw [show ys_e c i = i from if_pos z]; omega
        · rw [show ys_e c i = tc_en c (i - 4) from if_neg (by omega)]
          have := tc_en_lt W z.2
          omega
      refine pk_le 20 k (fun z => by omega) (fun _ => br_f (nI_nle (n := ((m, i) :: l).length) (Nat.succ_pos _) (by show l.length + 1 < 2 ^ 31; omega)) (nm_r e1 ⟨i7, nm_r c1 ⟨i7, nm_r c2 (pk_le 4 (ys_e c i) (fun h4 => ?_) (fun h4 => ?_))⟩⟩))
      · obtain ⟨g1, g2, g3⟩ := ys_e_ge W v1 h4
        rw [g3] at v4 ⊢
        obtain ⟨f1, f2, f3⟩ := wy_fin W F (show m < tn by omega) g2 v4
        obtain ⟨p1, p2, p3, p4⟩ := wk_pp_ok (Q := xw_Q a_nodeWays) W F ht hb v2 v3 g2 v4 v5
        have ez : wk_z c ((m, i) :: l) = tc_sz c (i - 4) + wk_z c l := by
          show (if i < 4 then 1 else tc_sz c (i - 4)) + wk_z c l = _
          rw [if_neg (by omega)]
        have em : wk_m c op sp (xw_Q a_nodeWays) ((m, i) :: l) = wy_p c op sp (xw_Q a_nodeWays) m (i - 4) * wk_m c op sp (xw_Q a_nodeWays) l := by
          show wk_w c op sp (xw_Q a_nodeWays) (m, i) * _ = _
          unfold wk_w
          rw [if_neg (show ¬ (m, i).2 < 4 by show ¬ i < 4; omega)]
        refine xa_parts W A F Nd (show m < tn by omega) g2 f1 s3 (by omega) (fun WE' WN' S' => nm_r (nI_1 k) ?_)
        exact ih (wk_pp c op sp m (i - 4) ++ l) pr (k + 1) WE' WN' (by omega) (by omega) p1 S' (by rw [p3, ← em]; exact hp) f (by omega)
      · have e4 : (4 : Int32) * nI m + nI (ys_e c i) = nI (4 * m + ys_e c i) := by rw [show (4 : Int32) = nI 4 from rfl, pk_mul, nI_add]
        have ez : wk_z c l + 1 ≤ wk_z c ((m, i) :: l) := by
          show wk_z c l + 1 ≤ (if i < 4 then 1 else tc_sz c (i - 4)) + wk_z c l
          rcases v1 with z | z
          · rw [if_pos z]; omega
          · rw [if_neg (by omega)]
            have := (tc_loc W z.2).2.1
            omega
        refine ⟨pk_in (4 * m + ys_e c i) 96 (by omega) e4, nm_r (e' := pr * wk_w c op sp (xw_Q a_nodeWays) (m, i)) ?_ (nm_r (nI_1 k) ?_)⟩
        · rw [e4, nI_clamp (by omega), wk_w_g W v1 h4]; rfl
        · exact ih l _ (k + 1) WE WN (by omega) (by omega) v5 s3 (by rw [Int32.mul_assoc]; exact hp) f (by omega)
theorem xw_help (W : tc_wf c) (R : xl_R c a_left a_ruleCost a_ruleSize a_rulePart) (A : xl_A c a_helperOperator a_helperFirst a_helperSecond a_chainFrom) (F : tt_F op sp tn) (Nd : xn_N op sp tn a_operator a_firstPart a_secondPart) {b0 top : Nat} (ht : top < tn) (hb : ∀ n, b0 ≤ n → n ≤ top → 2 ≤ op n → b0 ≤ tt_x op sp n) {post : Int32 → SX → Prop} {n p : Nat} (h1 : b0 ≤ n) (h2 : n ≤ top) (hp : tc_op c p) (hf : tt_A c op sp n (tc_en c p) < 1000000)
    (K : ∀ (wk : Int32) (WE WN : Nat → Int32), post (wy_p c op sp (xw_Q a_nodeWays) n p) (f_drafted, f_patternHeight, f_rules, f_nodes, f_treeHeight, f_isLaid, f_entries, f_stateCount, f_isWhole, f_tooMany, f_trialLeast, f_covered, wk, f_fromStates, f_whereFirst, f_whereSecond, a_draft, a_patternBegin, a_left, a_ruleCost, a_ruleSize, a_rulePart, a_operator, a_firstPart, a_secondPart, a_stack, a_treeBegin, a_helperOperator, a_helperFirst, a_helperSecond, a_chainFrom, a_openParts, a_stateCost, a_leafState, a_leafAdd, a_oneState, a_oneAdd, a_twoState, a_twoAdd, a_trial, a_nodeCost, a_nodeWays, a_cover, WE, WN, a_nodeState, a_nodeBase)) : wpX_helperWays post (f_drafted, f_patternHeight, f_rules, f_nodes, f_treeHeight, f_isLaid, f_entries, f_stateCount, f_isWhole, f_tooMany, f_trialLeast, f_covered, f_works, f_fromStates, f_whereFirst, f_whereSecond, a_draft, a_patternBegin, a_left, a_ruleCost, a_ruleSize, a_rulePart, a_operator, a_firstPart, a_secondPart, a_stack, a_treeBegin, a_helperOperator, a_helperFirst, a_helperSecond, a_chainFrom, a_openParts, a_stateCost, a_leafState, a_leafAdd, a_oneState, a_oneAdd, a_twoState, a_twoAdd, a_trial, a_nodeCost, a_nodeWays, a_cover, a_workEntry, a_workNode, a_nodeState, a_nodeBase) (nI n) (nI (tc_en c p)) := by
  have l3 := (tc_loc W hp.1).2.2.1
  unfold wpX_helperWays
  refine xa_work (wk := 0) (by omega) ?_
  refine ⟨21, ?_⟩
  have S : wk_S c (upd a_workEntry 0 (nI (tc_en c p))) (upd a_workNode 0 (nI n)) [(n, 4 + p)] := ⟨by rw [ys_e_4]; exact pk_us, pk_us, trivial⟩
  have V : wk_V c op sp b0 top [(n, 4 + p)] := ⟨Or.inr ⟨by show 4 ≤ 4 + p; omega, by show tc_us c (4 + p - 4); rw [show 4 + p - 4 = p by omega]; exact hp.1⟩, h1, h2, by show tt_A c op sp n (ys_e c (4 + p)) < 1000000; rw [ys_e_4]; exact hf, trivial⟩
  have z : wk_z c [(n, 4 + p)] = tc_sz c p := by
    show (if 4 + p < 4 then 1 else tc_sz c (4 + p - 4)) + 0 = _
    rw [if_neg (by omega), show 4 + p - 4 = p by omega]
    rfl
  refine xw_16 W R A F Nd ht hb K 20 [(n, 4 + p)] 1 0 _ _ (by omega) (by omega) V S ?_ 21 (by omega)
  rw [Int32.one_mul]
  show wk_w c op sp (xw_Q a_nodeWays) (n, 4 + p) * 1 = _
  rw [Int32.mul_one]
  unfold wk_w
  rw [if_neg (show ¬ (n, 4 + p).2 < 4 by show ¬ 4 + p < 4; omega)]
  show wy_p c op sp (xw_Q a_nodeWays) n (4 + p - 4) = _
  rw [show 4 + p - 4 = p by omega]
end
end
section
/-! X: isBest, waysOf, nextGoal, countWays -/
section
variable {f_drafted f_patternHeight f_rules f_nodes f_treeHeight f_isLaid f_entries f_stateCount f_isWhole f_tooMany f_trialLeast f_covered f_works f_fromStates f_whereFirst f_whereSecond : Int32} {a_draft a_patternBegin a_left a_ruleCost a_ruleSize a_rulePart a_operator a_firstPart a_secondPart a_stack a_treeBegin a_helperOperator a_helperFirst a_helperSecond a_chainFrom a_openParts a_stateCost a_leafState a_leafAdd a_oneState a_oneAdd a_twoState a_twoAdd a_trial a_nodeCost a_nodeWays a_cover a_workEntry a_workNode a_nodeState a_nodeBase : Nat → Int32} {c : tc_C} {op sp : Nat → Nat} {tn : Nat}
theorem xi_best (W : tc_wf c) (R : xl_R c a_left a_ruleCost a_ruleSize a_rulePart) (A : xl_A c a_helperOperator a_helperFirst a_helperSecond a_chainFrom) (F : tt_F op sp tn) {post : Int32 → Prop} {n r : Nat} (hn : n < tn) (hr : r < tc_nr c) (C : xn_C c op sp a_nodeCost n) (K1 : wy_B c op sp n (tc_lf c r) r → post 1) (K0 : ¬ wy_B c op sp n (tc_lf c r) r → post 0) : wpX_isBest post (f_drafted, f_patternHeight, f_rules, f_nodes, f_treeHeight, f_isLaid, f_entries, f_stateCount, f_isWhole, f_tooMany, f_trialLeast, f_covered, f_works, f_fromStates, f_whereFirst, f_whereSecond, a_draft, a_patternBegin, a_left, a_ruleCost, a_ruleSize, a_rulePart, a_operator, a_firstPart, a_secondPart, a_stack, a_treeBegin, a_helperOperator, a_helperFirst, a_helperSecond, a_chainFrom, a_openParts, a_stateCost, a_leafState, a_leafAdd, a_oneState, a_oneAdd, a_twoState, a_twoAdd, a_trial, a_nodeCost, a_nodeWays, a_cover, a_workEntry, a_workNode, a_nodeState, a_nodeBase) (nI n) (nI r) := by
  have h24 := F.1
  have h10 := W.1
  have hN := tc_N_le W
  have hcf := tc_cf_lt W hr
  obtain ⟨r1, r2, r3, r4⟩ := R r hr
  obtain ⟨w1, w2, -⟩ := W.2 r hr
  have i1 : vp_in (nI r) 10 := vp_in_nI (by omega) (by decide)
  have b1 := tt_A_le (c := c) F hn (tc_cf c r)
  have b2 := tt_A_le (c := c) F hn (tc_lf c r)
  refine ⟨i1, xs_cost (n := n) (e := tc_cf c r) (by omega) (by omega) rfl (by rw [nI_clamp (by omega)]; exact A.2 r hr) (C _ hcf) (pk_le 1000000 (tt_A c op sp n (tc_cf c r)) (fun z => K0 (fun q => ?_)) (fun z => ⟨i1, i1, xs_cost (n := n) (e := tc_lf c r) (by omega) (by omega) rfl (by rw [nI_clamp (by omega)]; exact r1) (C _ (by omega)) ?_⟩))⟩
  · have := q.2.1
    omega
  · exact pk_eq (tt_A c op sp n (tc_cf c r) + tc_rc c r) (tt_A c op sp n (tc_lf c r)) (fun y => K1 ⟨rfl, z, y⟩) (fun y => K0 (fun q => y q.2.2)) (by rw [nI_clamp (by omega), r2, nI_add])
theorem xq_5 (W : tc_wf c) (R : xl_R c a_left a_ruleCost a_ruleSize a_rulePart) (A : xl_A c a_helperOperator a_helperFirst a_helperSecond a_chainFrom) (F : tt_F op sp tn) (Nd : xn_N op sp tn a_operator a_firstPart a_secondPart) {b0 top : Nat} (ht : top < tn) (hb : ∀ n, b0 ≤ n → n ≤ top → 2 ≤ op n → b0 ≤ tt_x op sp n) (Cs : ∀ m, b0 ≤ m → m ≤ top → xn_C c op sp a_nodeCost m) {post : Int32 → SX → Prop} {n g : Nat} (hg : g < 4) (h1 : b0 ≤ n) (h2 : n ≤ top)
    (K : ∀ (wk : Int32) (WE WN : Nat → Int32), post (wy_S c op sp (xw_Q a_nodeWays) n g (tc_nr c)) (f_drafted, f_patternHeight, nI (tc_nr c), f_nodes, f_treeHeight, f_isLaid, nI (tc_N c), f_stateCount, f_isWhole, f_tooMany, f_trialLeast, f_covered, wk, f_fromStates, f_whereFirst, f_whereSecond, a_draft, a_patternBegin, a_left, a_ruleCost, a_ruleSize, a_rulePart, a_operator, a_firstPart, a_secondPart, a_stack, a_treeBegin, a_helperOperator, a_helperFirst, a_helperSecond, a_chainFrom, a_openParts, a_stateCost, a_leafState, a_leafAdd, a_oneState, a_oneAdd, a_twoState, a_twoAdd, a_trial, a_nodeCost, a_nodeWays, a_cover, WE, WN, a_nodeState, a_nodeBase)) :
    ∀ d r, r + d = tc_nr c → ∀ (wk : Int32) (WE WN : Nat → Int32) f, d < f → wX_waysOf_5 post (nI n) (nI g) f (wy_S c op sp (xw_Q a_nodeWays) n g r) (nI r) f_drafted f_patternHeight (nI (tc_nr c)) f_nodes f_treeHeight f_isLaid (nI (tc_N c)) f_stateCount f_isWhole f_tooMany f_trialLeast f_covered wk f_fromStates f_whereFirst f_whereSecond a_draft a_patternBegin a_left a_ruleCost a_ruleSize a_rulePart a_operator a_firstPart a_secondPart a_stack a_treeBegin a_helperOperator a_helperFirst a_helperSecond a_chainFrom a_openParts a_stateCost a_leafState a_leafAdd a_oneState a_oneAdd a_twoState a_twoAdd a_trial a_nodeCost a_nodeWays a_cover WE WN a_nodeState a_nodeBase := by
  have h24 := F.1
  have h10 := W.1
  have hN := tc_N_le W
  intro d
  induction d with
  | zero =>
    intro r hr wk WE WN f hf
    obtain ⟨f, rfl⟩ : ∃ m, f = m + 1 := ⟨f - 1, by omega⟩
    have er : r = tc_nr c := by omega
    subst er
    exact pk_le (tc_nr c) (tc_nr c) (fun _ => K wk WE WN) (fun z => by omega)
  | succ d ih =>
    intro r hr wk WE WN f hf
    obtain ⟨f, rfl⟩ : ∃ m, f = m + 1 := ⟨f - 1, by omega⟩
    have hlt : r < tc_nr c := by omega
    obtain ⟨r1, r2, r3, r4⟩ := R r hlt
    have w1 := (W.2 r hlt).1
    have i1 : vp_in (nI r) 10 := vp_in_nI (by omega) (by decide)
    have hcf := tc_cf_lt W hlt
    have c1 : a_left (nI r).toNatClampNeg = nI (tc_lf c r) := by rw [nI_clamp (by omega)]; exact r1
    have c2 : a_chainFrom (nI r).toNatClampNeg = nI (tc_cf c r) := by rw [nI_clamp (by omega)]; exact A.2 r hlt
    have nx := ih (r + 1) (by omega)
    have skip : ¬ wy_B c op sp n g r → wX_waysOf_5 post (nI n) (nI g) f (wy_S c op sp (xw_Q a_nodeWays) n g r) (nI (r + 1)) f_drafted f_patternHeight (nI (tc_nr c)) f_nodes f_treeHeight f_isLaid (nI (tc_N c)) f_stateCount f_isWhole f_tooMany f_trialLeast f_covered wk f_fromStates f_whereFirst f_whereSecond a_draft a_patternBegin a_left a_ruleCost a_ruleSize a_rulePart a_operator a_firstPart a_secondPart a_stack a_treeBegin a_helperOperator a_helperFirst a_helperSecond a_chainFrom a_openParts a_stateCost a_leafState a_leafAdd a_oneState a_oneAdd a_twoState a_twoAdd a_trial a_nodeCost a_nodeWays a_cover WE WN a_nodeState a_nodeBase := fun hB => by
      have q := nx wk WE WN f (by omega)
      rw [wy_S_f hB] at q
      exact q
    refine pk_le (tc_nr c) r (fun z => by omega) (fun _ => ⟨i1, pk_eq (tc_lf c r) g (fun e => ?_) (fun e => nm_r (nI_1 r) (skip (fun q => e q.1))) c1⟩)
    refine xi_best W R A F (show n < tn by omega) hlt (Cs n h1 h2) (fun hB => br_f (by decide) ⟨i1, nm_r c2 ?_⟩) (fun hB => br_t rfl (nm_r (nI_1 r) (skip (fun q => hB (by rw [e]; exact q)))))
    rw [e] at hB
    have eS := wy_S_t (Q := xw_Q a_nodeWays) hB
    have hus := tc_us_rt W hlt
    refine pk_le 4 (tc_cf c r) (fun h4 => ?_) (fun h4 => ?_)
    · have hop : tc_op c (wy_rt c r) := ⟨hus, by
        by_cases z : tc_mk c (wy_rt c r) < 10
        · exact z
        · have := tc_en_go4 W hus z
          have e2 : tc_cf c r = tc_en c (7 * r + tc_rn c r - 1) := rfl
          omega⟩
      refine xw_help W R A F Nd ht hb h1 h2 hop hB.2.1 (fun wk' WE' WN' => nm_e (nm_r (nI_1 r) ?_))
      have q := nx wk' WE' WN' f (by omega)
      rw [eS] at q
      exact q
    · have hm : ¬ tc_mk c (wy_rt c r) < 10 := fun z => by
        have := tc_en_op4 (c := c) ⟨hus, z⟩
        have e2 : tc_cf c r = tc_en c (7 * r + tc_rn c r - 1) := rfl
        omega
      have ec : tc_cf c r = tc_mk c (wy_rt c r) - 10 := tc_en_go hm
      have e4 : (4 : Int32) * nI n + nI (tc_cf c r) = nI (4 * n + tc_cf c r) := by rw [show (4 : Int32) = nI 4 from rfl, pk_mul, nI_add]
      refine ⟨pk_in (4 * n + tc_cf c r) 96 (by omega) e4, nm_r (e' := wy_p c op sp (xw_Q a_nodeWays) n (wy_rt c r)) ?_ (nm_e (nm_r (nI_1 r) ?_))⟩
      · rw [e4, nI_clamp (by omega), wy_p_g hm, ec]; rfl
      · rw [← eS]
        exact nx wk WE WN f (by omega)
theorem xq_of (W : tc_wf c) (R : xl_R c a_left a_ruleCost a_ruleSize a_rulePart) (A : xl_A c a_helperOperator a_helperFirst a_helperSecond a_chainFrom) (F : tt_F op sp tn) (Nd : xn_N op sp tn a_operator a_firstPart a_secondPart) {b0 top : Nat} (ht : top < tn) (hb : ∀ n, b0 ≤ n → n ≤ top → 2 ≤ op n → b0 ≤ tt_x op sp n) (Cs : ∀ m, b0 ≤ m → m ≤ top → xn_C c op sp a_nodeCost m) {post : Int32 → SX → Prop} {n g : Nat} (hg : g < 4) (h1 : b0 ≤ n) (h2 : n ≤ top)
    (K : ∀ (wk : Int32) (WE WN : Nat → Int32), post (wy_S c op sp (xw_Q a_nodeWays) n g (tc_nr c)) (f_drafted, f_patternHeight, nI (tc_nr c), f_nodes, f_treeHeight, f_isLaid, nI (tc_N c), f_stateCount, f_isWhole, f_tooMany, f_trialLeast, f_covered, wk, f_fromStates, f_whereFirst, f_whereSecond, a_draft, a_patternBegin, a_left, a_ruleCost, a_ruleSize, a_rulePart, a_operator, a_firstPart, a_secondPart, a_stack, a_treeBegin, a_helperOperator, a_helperFirst, a_helperSecond, a_chainFrom, a_openParts, a_stateCost, a_leafState, a_leafAdd, a_oneState, a_oneAdd, a_twoState, a_twoAdd, a_trial, a_nodeCost, a_nodeWays, a_cover, WE, WN, a_nodeState, a_nodeBase)) : wpX_waysOf post (f_drafted, f_patternHeight, nI (tc_nr c), f_nodes, f_treeHeight, f_isLaid, nI (tc_N c), f_stateCount, f_isWhole, f_tooMany, f_trialLeast, f_covered, f_works, f_fromStates, f_whereFirst, f_whereSecond, a_draft, a_patternBegin, a_left, a_ruleCost, a_ruleSize, a_rulePart, a_operator, a_firstPart, a_secondPart, a_stack, a_treeBegin, a_helperOperator, a_helperFirst, a_helperSecond, a_chainFrom, a_openParts, a_stateCost, a_leafState, a_leafAdd, a_oneState, a_oneAdd, a_twoState, a_twoAdd, a_trial, a_nodeCost, a_nodeWays, a_cover, a_workEntry, a_workNode, a_nodeState, a_nodeBase) (nI n) (nI g) :=
  ⟨tc_nr c + 1, xq_5 W R A F Nd ht hb Cs hg h1 h2 K (tc_nr c) 0 (by omega) _ _ _ _ (by omega)⟩
/-! goals by rising costs: the key of a goal is 4 times its cost and its number -/
def xg_L (w : Nat → Nat) (T : Nat) (last : Int32) : Prop := (last = -1 ∧ T = 0) ∨ ∃ l, l < 4 ∧ last = nI l ∧ T = 4 * w l + l + 1
def xg_R (w : Nat → Nat) (T k : Nat) (x : Int32) : Prop := (x = -1 ∧ ∀ g, g < k → w g < 1000000 → 4 * w g + g < T) ∨ ∃ b, b < k ∧ x = nI b ∧ w b < 1000000 ∧ T ≤ 4 * w b + b ∧ ∀ g, g < k → w g < 1000000 → T ≤ 4 * w g + g → 4 * w b + b ≤ 4 * w g + g
theorem xg_58 {post : Int32 → Prop} {J : Int32 → Int32 → Prop} {x2 x3 z0 : Int32} {n k T : Nat} {w : Nat → Nat} (hn : n < 24) (hk : k < 4) (hw : ∀ g, w g ≤ 1000000) (C : ∀ g, g < 4 → a_nodeCost (74 * n + g) = nI (w g)) (hz : (z0 = 1 ∧ T ≤ 4 * w k + k) ∨ (z0 = 0 ∧ 4 * w k + k < T)) (hx : xg_R w T k x3)
    (K : ∀ x, xg_R w T (k + 1) x → J x (nI (k + 1))) : wX_nextGoal_58 post J (nI n) x2 x3 (nI k) (nI (w k)) z0 f_drafted f_patternHeight f_rules f_nodes f_treeHeight f_isLaid f_entries f_stateCount f_isWhole f_tooMany f_trialLeast f_covered f_works f_fromStates f_whereFirst f_whereSecond a_draft a_patternBegin a_left a_ruleCost a_ruleSize a_rulePart a_operator a_firstPart a_secondPart a_stack a_treeBegin a_helperOperator a_helperFirst a_helperSecond a_chainFrom a_openParts a_stateCost a_leafState a_leafAdd a_oneState a_oneAdd a_twoState a_twoAdd a_trial a_nodeCost a_nodeWays a_cover a_workEntry a_workNode a_nodeState a_nodeBase := by
  have b := hw k
  have keep : (w k < 1000000 → 4 * w k + k < T ∨ ∃ b, b < k ∧ x3 = nI b ∧ w b ≤ w k) → J x3 (nI (k + 1)) := fun h => K x3 (by
    rcases hx with ⟨e1, e2⟩ | ⟨b, e1, e2, e3, e4, e5⟩
    · refine Or.inl ⟨e1, fun g hg hf => ?_⟩
      by_cases z : g = k
      · subst z
        rcases h hf with q | ⟨b, q1, q2, -⟩
        · exact q
        · rw [e1] at q2; exact absurd q2.symm (nI_n1 (by omega))
      · exact e2 g (by omega) hf
    · refine Or.inr ⟨b, by omega, e2, e3, e4, fun g hg hf hT => ?_⟩
      by_cases z : g = k
      · subst z
        rcases h hf with q | ⟨b', q1, q2, q3⟩
        · omega
        · rw [e2] at q2
          have := (nI_eq (by omega) (by omega)).mp q2
          subst this
          omega
      · exact e5 g (by omega) hf hT)
  have take : w k < 1000000 → T ≤ 4 * w k + k → (x3 = -1 ∨ ∃ b, b < k ∧ x3 = nI b ∧ w k < w b) → J (nI k) (nI (k + 1)) := fun hf hT h => K _ (by
    refine Or.inr ⟨k, by omega, rfl, hf, hT, fun g hg hgf hgT => ?_⟩
    by_cases z : g = k
    · subst z; exact Nat.le_refl _
    · rcases hx with ⟨e1, e2⟩ | ⟨b, e1, e2, e3, e4, e5⟩
      · have := e2 g (by omega) hgf
        omega
      · rcases h with h | ⟨b', q1, q2, q3⟩
        · rw [e2] at h; exact absurd h (nI_n1 (by omega))
        · rw [e2] at q2
          have := (nI_eq (by omega) (by omega)).mp q2
          subst this
          have := e5 g (by omega) hgf hgT
          omega)
  refine pk_le 1000000 (w k) (fun h => nm_r (nI_1 k) (keep (fun q => by omega))) (fun h => ?_)
  rcases hz with ⟨z1, z2⟩ | ⟨z1, z2⟩
  · refine br_f (by rw [z1]; decide) ?_
    by_cases y : x3 = -1
    · exact br_t y (nm_r (nI_1 k) (take h z2 (Or.inl y)))
    · rcases hx with ⟨e1, e2⟩ | ⟨b, e1, e2, e3, e4, e5⟩
      · exact absurd e1 y
      · refine br_f y (xs_cost (n := n) (e := b) hn (by omega) rfl e2 (C b (by omega)) (pk_le (w b) (w k) (fun q => nm_r (nI_1 k) (keep (fun _ => Or.inr ⟨b, e1, e2, q⟩))) (fun q => nm_r (nI_1 k) (take h z2 (Or.inr ⟨b, e1, e2, q⟩))) rfl rfl (by have := hw b; omega)))
  · exact br_t z1 (nm_r (nI_1 k) (keep (fun _ => Or.inl z2)))
theorem xg_5 {post : Int32 → Prop} {n T : Nat} {last : Int32} {w : Nat → Nat} (hn : n < 24) (hw : ∀ g, w g ≤ 1000000) (C : ∀ g, g < 4 → a_nodeCost (74 * n + g) = nI (w g)) (hl : xg_L w T last) (K : ∀ x, xg_R w T 4 x → post x) :
    ∀ d k, k + d = 4 → ∀ x, xg_R w T k x → ∀ f, d < f → wX_nextGoal_5 post (nI n) last f_drafted f_patternHeight f_rules f_nodes f_treeHeight f_isLaid f_entries f_stateCount f_isWhole f_tooMany f_trialLeast f_covered f_works f_fromStates f_whereFirst f_whereSecond a_draft a_patternBegin a_left a_ruleCost a_ruleSize a_rulePart a_operator a_firstPart a_secondPart a_stack a_treeBegin a_helperOperator a_helperFirst a_helperSecond a_chainFrom a_openParts a_stateCost a_leafState a_leafAdd a_oneState a_oneAdd a_twoState a_twoAdd a_trial a_nodeCost a_nodeWays a_cover a_workEntry a_workNode a_nodeState a_nodeBase f x (nI k) := by
  intro d
  induction d with
  | zero =>
    intro k hk x hx f hf
    obtain ⟨f, rfl⟩ : ∃ m, f = m + 1 := ⟨f - 1, by omega⟩
    have ek : k = 4 := by omega
    subst ek
    exact pk_le 4 4 (fun _ => K x hx) (fun z => by omega)
  | succ d ih =>
    intro k hk x hx f hf
    obtain ⟨f, rfl⟩ : ∃ m, f = m + 1 := ⟨f - 1, by omega⟩
    have go : ∀ z0 : Int32, ((z0 = 1 ∧ T ≤ 4 * w k + k) ∨ (z0 = 0 ∧ 4 * w k + k < T)) → wX_nextGoal_58 post (wX_nextGoal_5 post (nI n) last f_drafted f_patternHeight f_rules f_nodes f_treeHeight f_isLaid f_entries f_stateCount f_isWhole f_tooMany f_trialLeast f_covered f_works f_fromStates f_whereFirst f_whereSecond a_draft a_patternBegin a_left a_ruleCost a_ruleSize a_rulePart a_operator a_firstPart a_secondPart a_stack a_treeBegin a_helperOperator a_helperFirst a_helperSecond a_chainFrom a_openParts a_stateCost a_leafState a_leafAdd a_oneState a_oneAdd a_twoState a_twoAdd a_trial a_nodeCost a_nodeWays a_cover a_workEntry a_workNode a_nodeState a_nodeBase f) (nI n) last x (nI k) (nI (w k)) z0 f_drafted f_patternHeight f_rules f_nodes f_treeHeight f_isLaid f_entries f_stateCount f_isWhole f_tooMany f_trialLeast f_covered f_works f_fromStates f_whereFirst f_whereSecond a_draft a_patternBegin a_left a_ruleCost a_ruleSize a_rulePart a_operator a_firstPart a_secondPart a_stack a_treeBegin a_helperOperator a_helperFirst a_helperSecond a_chainFrom a_openParts a_stateCost a_leafState a_leafAdd a_oneState a_oneAdd a_twoState a_twoAdd a_trial a_nodeCost a_nodeWays a_cover a_workEntry a_workNode a_nodeState a_nodeBase := fun z0 hz => xg_58 hn (by omega) hw C hz hx (fun x' hx' => ih (k + 1) (by omega) x' hx' f (by omega))
    have b := hw k
    refine pk_le 4 k (fun z => by omega) (fun _ => xs_cost (n := n) (e := k) hn (by omega) rfl rfl (C k (by omega)) ?_)
    rcases hl with ⟨l1, l2⟩ | ⟨l, l1, l2, l3⟩
    · exact br_t l1 (go 1 (Or.inl ⟨rfl, by omega⟩))
    · have b2 := hw l
      have hc := C l l1
      subst l2
      refine br_f (nI_n1 (by omega)) (xs_cost (n := n) (e := l) hn (by omega) rfl rfl hc (pk_lt (w l) (w k) (fun q => go 1 (Or.inl ⟨rfl, by omega⟩)) (fun q => xs_cost (n := n) (e := l) hn (by omega) rfl rfl hc (pk_eq (w k) (w l) (fun q' => pk_le k l (fun y => go 0 (Or.inr ⟨rfl, by omega⟩)) (fun y => go 1 (Or.inl ⟨rfl, by omega⟩))) (fun q' => go 0 (Or.inr ⟨rfl, by omega⟩))))))
theorem xg_next {post : Int32 → Prop} {n T : Nat} {last : Int32} {w : Nat → Nat} (hn : n < 24) (hw : ∀ g, w g ≤ 1000000) (C : ∀ g, g < 4 → a_nodeCost (74 * n + g) = nI (w g)) (hl : xg_L w T last) (K : ∀ x, xg_R w T 4 x → post x) : wpX_nextGoal post (f_drafted, f_patternHeight, f_rules, f_nodes, f_treeHeight, f_isLaid, f_entries, f_stateCount, f_isWhole, f_tooMany, f_trialLeast, f_covered, f_works, f_fromStates, f_whereFirst, f_whereSecond, a_draft, a_patternBegin, a_left, a_ruleCost, a_ruleSize, a_rulePart, a_operator, a_firstPart, a_secondPart, a_stack, a_treeBegin, a_helperOperator, a_helperFirst, a_helperSecond, a_chainFrom, a_openParts, a_stateCost, a_leafState, a_leafAdd, a_oneState, a_oneAdd, a_twoState, a_twoAdd, a_trial, a_nodeCost, a_nodeWays, a_cover, a_workEntry, a_workNode, a_nodeState, a_nodeBase) (nI n) last :=
  ⟨5, xg_5 hn hw C hl K 4 0 rfl (-1) (Or.inl ⟨rfl, fun g hg => absurd hg (Nat.not_lt_zero _)⟩) 5 (by omega)⟩
/-- rows of ways, as far as goals with keys below T are done at node n -/
def xq_I (c : tc_C) (op sp : Nat → Nat) (Q : Nat → Nat → Int32) (n T : Nat) : Prop := ∀ g, g < 4 → Q n g = @ite Int32 (tt_A c op sp n g < 1000000 ∧ 4 * tt_A c op sp n g + g < T) (Classical.propDecidable _) (wy_S c op sp Q n g (tc_nr c)) 0
theorem xq_I_t {Q : Nat → Nat → Int32} {n T g : Nat} (h : xq_I c op sp Q n T) (hg : g < 4) (h1 : tt_A c op sp n g < 1000000) (h2 : 4 * tt_A c op sp n g + g < T) : Q n g = wy_S c op sp Q n g (tc_nr c) := (h g hg).trans (@if_pos _ (Classical.propDecidable _) ⟨h1, h2⟩ _ _ _)
theorem xq_I_f {Q : Nat → Nat → Int32} {n T g : Nat} (h : xq_I c op sp Q n T) (hg : g < 4) (h1 : ¬ (tt_A c op sp n g < 1000000 ∧ 4 * tt_A c op sp n g + g < T)) : Q n g = 0 := (h g hg).trans (@if_neg _ (Classical.propDecidable _) h1 _ _ _)
theorem xq_I_of {Q : Nat → Nat → Int32} {n T : Nat} (h1 : ∀ g, g < 4 → tt_A c op sp n g < 1000000 → 4 * tt_A c op sp n g + g < T → Q n g = wy_S c op sp Q n g (tc_nr c)) (h2 : ∀ g, g < 4 → ¬ (tt_A c op sp n g < 1000000 ∧ 4 * tt_A c op sp n g + g < T) → Q n g = 0) : xq_I c op sp Q n T := fun g hg => by
  by_cases z : tt_A c op sp n g < 1000000 ∧ 4 * tt_A c op sp n g + g < T
  · exact (h1 g hg z.1 z.2).trans (@if_pos _ (Classical.propDecidable _) z _ _ _).symm
  · exact (h2 g hg z).trans (@if_neg _ (Classical.propDecidable _) z _ _ _).symm
/-- one goal more -/
theorem xq_I_s (W : tc_wf c) (F : tt_F op sp tn) {Q Q' : Nat → Nat → Int32} {b0 top : Nat} (ht : top < tn) (hb : ∀ n, b0 ≤ n → n ≤ top → 2 ≤ op n → b0 ≤ tt_x op sp n) {n T b : Nat} (h1 : b0 ≤ n) (h2 : n ≤ top) (hI : xq_I c op sp Q n T) (hb4 : b < 4) (hbf : tt_A c op sp n b < 1000000) (hbT : T ≤ 4 * tt_A c op sp n b + b)
    (hmin : ∀ g, g < 4 → tt_A c op sp n g < 1000000 → T ≤ 4 * tt_A c op sp n g + g → 4 * tt_A c op sp n b + b ≤ 4 * tt_A c op sp n g + g) (e1 : Q' n b = wy_S c op sp Q n b (tc_nr c)) (e2 : ∀ g, g < 4 → g ≠ b → Q' n g = Q n g) (e3 : ∀ m, b0 ≤ m → m < n → ∀ g, g < 4 → Q' m g = Q m g) :
    xq_I c op sp Q' n (4 * tt_A c op sp n b + b + 1) := by
  have ext : ∀ g, g < 4 → tt_A c op sp n g ≤ tt_A c op sp n b → wy_S c op sp Q' n g (tc_nr c) = wy_S c op sp Q n g (tc_nr c) := fun g hg hle =>
    wy_S_x W F ht hb h1 h2 (fun h hh hlt => e2 h hh (fun z => by rw [z] at hlt; omega)) e3 _ (Nat.le_refl _)
  refine xq_I_of (fun g hg hf hk => ?_) (fun g hg hk => ?_)
  · by_cases z : g = b
    · subst z
      rw [e1, ext g hg (Nat.le_refl _)]
    · rcases Nat.lt_or_ge (4 * tt_A c op sp n g + g) T with y | y
      · rw [e2 g hg z, ext g hg (by omega)]
        exact xq_I_t hI hg hf y
      · have := hmin g hg hf y
        omega
  · have z : g ≠ b := fun z => hk (by subst z; exact ⟨hbf, by omega⟩)
    rw [e2 g hg z]
    exact xq_I_f hI hg (fun q => hk ⟨q.1, by omega⟩)
theorem xq_33 (W : tc_wf c) (R : xl_R c a_left a_ruleCost a_ruleSize a_rulePart) (A : xl_A c a_helperOperator a_helperFirst a_helperSecond a_chainFrom) (F : tt_F op sp tn) (Nd : xn_N op sp tn a_operator a_firstPart a_secondPart) {b0 top : Nat} (ht : top < tn) (hb : ∀ n, b0 ≤ n → n ≤ top → 2 ≤ op n → b0 ≤ tt_x op sp n) (Cs : ∀ m, b0 ≤ m → m ≤ top → xn_C c op sp a_nodeCost m) {post : SX → Prop} {n : Nat} (h1 : b0 ≤ n) (h2 : n ≤ top)
    (K : ∀ (wk : Int32) (WE WN NW : Nat → Int32), wy_F c op sp (xw_Q NW) n → (∀ j, (j < 4 * n ∨ 4 * n + 4 ≤ j) → NW j = a_nodeWays j) → post (f_drafted, f_patternHeight, nI (tc_nr c), f_nodes, f_treeHeight, f_isLaid, nI (tc_N c), f_stateCount, f_isWhole, f_tooMany, f_trialLeast, f_covered, wk, f_fromStates, f_whereFirst, f_whereSecond, a_draft, a_patternBegin, a_left, a_ruleCost, a_ruleSize, a_rulePart, a_operator, a_firstPart, a_secondPart, a_stack, a_treeBegin, a_helperOperator, a_helperFirst, a_helperSecond, a_chainFrom, a_openParts, a_stateCost, a_leafState, a_leafAdd, a_oneState, a_oneAdd, a_twoState, a_twoAdd, a_trial, a_nodeCost, NW, a_cover, WE, WN, a_nodeState, a_nodeBase)) :
    ∀ d i, i + d = 4 → ∀ (T : Nat) (x wk : Int32) (WE WN NW : Nat → Int32), xq_I c op sp (xw_Q NW) n T → xg_R (tt_A c op sp n) T 4 x → tn_ct (fun g => tt_A c op sp n g < 1000000 ∧ T ≤ 4 * tt_A c op sp n g + g) 4 ≤ d → (∀ j, (j < 4 * n ∨ 4 * n + 4 ≤ j) → NW j = a_nodeWays j) →
      ∀ f, d < f → wX_countWays_33 post (nI n) f x (nI i) f_drafted f_patternHeight (nI (tc_nr c)) f_nodes f_treeHeight f_isLaid (nI (tc_N c)) f_stateCount f_isWhole f_tooMany f_trialLeast f_covered wk f_fromStates f_whereFirst f_whereSecond a_draft a_patternBegin a_left a_ruleCost a_ruleSize a_rulePart a_operator a_firstPart a_secondPart a_stack a_treeBegin a_helperOperator a_helperFirst a_helperSecond a_chainFrom a_openParts a_stateCost a_leafState a_leafAdd a_oneState a_oneAdd a_twoState a_twoAdd a_trial a_nodeCost NW a_cover WE WN a_nodeState a_nodeBase := by
  have h24 := F.1
  have hN := tc_N_le W
  have hw := tt_A_le (c := c) F (show n < tn by omega)
  have done : ∀ (T : Nat) (wk : Int32) (WE WN NW : Nat → Int32), xq_I c op sp (xw_Q NW) n T → (∀ g, g < 4 → tt_A c op sp n g < 1000000 → 4 * tt_A c op sp n g + g < T) → (∀ j, (j < 4 * n ∨ 4 * n + 4 ≤ j) → NW j = a_nodeWays j) → post (f_drafted, f_patternHeight, nI (tc_nr c), f_nodes, f_treeHeight, f_isLaid, nI (tc_N c), f_stateCount, f_isWhole, f_tooMany, f_trialLeast, f_covered, wk, f_fromStates, f_whereFirst, f_whereSecond, a_draft, a_patternBegin, a_left, a_ruleCost, a_ruleSize, a_rulePart, a_operator, a_firstPart, a_secondPart, a_stack, a_treeBegin, a_helperOperator, a_helperFirst, a_helperSecond, a_chainFrom, a_openParts, a_stateCost, a_leafState, a_leafAdd, a_oneState, a_oneAdd, a_twoState, a_twoAdd, a_trial, a_nodeCost, NW, a_cover, WE, WN, a_nodeState, a_nodeBase) := by
    intro T wk WE WN NW hI hall hfr
    refine K wk WE WN NW (fun g hg => ?_) hfr
    by_cases z : tt_A c op sp n g < 1000000
    · rw [if_pos z]; exact xq_I_t hI hg z (hall g hg z)
    · rw [if_neg z]; exact xq_I_f hI hg (fun q => z q.1)
  intro d
  induction d with
  | zero =>
    intro i hi T x wk WE WN NW hI hx hc hfr f hf
    obtain ⟨f, rfl⟩ : ∃ m, f = m + 1 := ⟨f - 1, by omega⟩
    refine pk_le 4 i (fun _ => done T wk WE WN NW hI (fun g hg hgf => ?_) hfr) (fun z => by omega)
    rcases Nat.lt_or_ge (4 * tt_A c op sp n g + g) T with y | y
    · exact y
    · have := tn_ct_lt (P := fun _ => False) (Q := fun g => tt_A c op sp n g < 1000000 ∧ T ≤ 4 * tt_A c op sp n g + g) (a := g) id ⟨hgf, y⟩ 4 hg (fun _ _ q => q.elim)
      omega
  | succ d ih =>
    intro i hi T x wk WE WN NW hI hx hc hfr f hf
    obtain ⟨f, rfl⟩ : ∃ m, f = m + 1 := ⟨f - 1, by omega⟩
    refine pk_le 4 i (fun z => by omega) (fun _ => ?_)
    rcases hx with ⟨e1, e2⟩ | ⟨b, e1, e2, e3, e4, e5⟩
    · exact br_t e1 (done T wk WE WN NW hI e2 hfr)
    · subst e2
      have i4 : (4 : Int32) * nI n + nI b = nI (4 * n + b) := by rw [show (4 : Int32) = nI 4 from rfl, pk_mul, nI_add]
      refine br_f (nI_n1 (by omega)) (xq_of W R A F Nd ht hb Cs e1 h1 h2 (fun wk' WE' WN' => ⟨pk_in (4 * n + b) 96 (by omega) i4, nm_r (e' := upd NW (4 * n + b) (wy_S c op sp (xw_Q NW) n b (tc_nr c))) (by rw [i4, nI_clamp (by omega)]) ?_⟩))
      have eQ : ∀ m g, m ≠ n ∨ g ≠ b → g < 4 → xw_Q (upd NW (4 * n + b) (wy_S c op sp (xw_Q NW) n b (tc_nr c))) m g = xw_Q NW m g := fun m g h hg => pk_un (by omega)
      have hI' : xq_I c op sp (xw_Q (upd NW (4 * n + b) (wy_S c op sp (xw_Q NW) n b (tc_nr c)))) n (4 * tt_A c op sp n b + b + 1) := xq_I_s W F ht hb h1 h2 hI e1 e3 e4 e5 pk_us (fun g hg hne => eQ n g (Or.inr hne) hg) (fun m m1 m2 g hg => eQ m g (Or.inl (by omega)) hg)
      refine xg_next (n := n) (T := 4 * tt_A c op sp n b + b + 1) (w := tt_A c op sp n) (by omega) hw (fun g hg => Cs n h1 h2 g (by omega)) (Or.inr ⟨b, e1, rfl, rfl⟩) (fun x' hx' => nm_r (nI_1 i) ?_)
      refine ih (i + 1) (by omega) _ x' wk' WE' WN' _ hI' hx' ?_ (fun j hj => (pk_un (by omega)).trans (hfr j hj)) f (by omega)
      have := tn_ct_lt (P := fun g => tt_A c op sp n g < 1000000 ∧ 4 * tt_A c op sp n b + b + 1 ≤ 4 * tt_A c op sp n g + g) (Q := fun g => tt_A c op sp n g < 1000000 ∧ T ≤ 4 * tt_A c op sp n g + g) (a := b) (fun q => by have := q.2; omega) ⟨e3, e4⟩ 4 e1 (fun g _ q => ⟨q.1, by omega⟩)
      omega
theorem xq_2 {post : SX → Prop} {n : Nat} (hn : n < 24)
    (K : ∀ NW : Nat → Int32, (∀ g, g < 4 → NW (4 * n + g) = 0) → (∀ j, (j < 4 * n ∨ 4 * n + 4 ≤ j) → NW j = a_nodeWays j) → wpX_nextGoal (fun r_2 => ∃ n33 : Nat, wX_countWays_33 post (nI n) n33 r_2 0 f_drafted f_patternHeight f_rules f_nodes f_treeHeight f_isLaid f_entries f_stateCount f_isWhole f_tooMany f_trialLeast f_covered f_works f_fromStates f_whereFirst f_whereSecond a_draft a_patternBegin a_left a_ruleCost a_ruleSize a_rulePart a_operator a_firstPart a_secondPart a_stack a_treeBegin a_helperOperator a_helperFirst a_helperSecond a_chainFrom a_openParts a_stateCost a_leafState a_leafAdd a_oneState a_oneAdd a_twoState a_twoAdd a_trial a_nodeCost NW a_cover a_workEntry a_workNode a_nodeState a_nodeBase) (f_drafted, f_patternHeight, f_rules, f_nodes, f_treeHeight, f_isLaid, f_entries, f_stateCount, f_isWhole, f_tooMany, f_trialLeast, f_covered, f_works, f_fromStates, f_whereFirst, f_whereSecond, a_draft, a_patternBegin, a_left, a_ruleCost, a_ruleSize, a_rulePart, a_operator, a_firstPart, a_secondPart, a_stack, a_treeBegin, a_helperOperator, a_helperFirst, a_helperSecond, a_chainFrom, a_openParts, a_stateCost, a_leafState, a_leafAdd, a_oneState, a_oneAdd, a_twoState, a_twoAdd, a_trial, a_nodeCost, NW, a_cover, a_workEntry, a_workNode, a_nodeState, a_nodeBase) (nI n) (-1)) :
    ∀ d k, k + d = 4 → ∀ NW : Nat → Int32, (∀ g, g < k → NW (4 * n + g) = 0) → (∀ j, (j < 4 * n ∨ 4 * n + 4 ≤ j) → NW j = a_nodeWays j) → ∀ f, d < f → wX_countWays_2 post (nI n) f_drafted f_patternHeight f_rules f_nodes f_treeHeight f_isLaid f_entries f_stateCount f_isWhole f_tooMany f_trialLeast f_covered f_works f_fromStates f_whereFirst f_whereSecond f (nI k) a_draft a_patternBegin a_left a_ruleCost a_ruleSize a_rulePart a_operator a_firstPart a_secondPart a_stack a_treeBegin a_helperOperator a_helperFirst a_helperSecond a_chainFrom a_openParts a_stateCost a_leafState a_leafAdd a_oneState a_oneAdd a_twoState a_twoAdd a_trial a_nodeCost NW a_cover a_workEntry a_workNode a_nodeState a_nodeBase := by
  intro d
  induction d with
  | zero =>
    intro k hk NW g1 g2 f hf
    obtain ⟨f, rfl⟩ : ∃ m, f = m + 1 := ⟨f - 1, by omega⟩
    have ek : k = 4 := by omega
    subst ek
    exact pk_le 4 4 (fun _ => K NW g1 g2) (fun z => by omega)
  | succ d ih =>
    intro k hk NW g1 g2 f hf
    obtain ⟨f, rfl⟩ : ∃ m, f = m + 1 := ⟨f - 1, by omega⟩
    have i4 : (4 : Int32) * nI n + nI k = nI (4 * n + k) := by rw [show (4 : Int32) = nI 4 from rfl, pk_mul, nI_add]
    refine pk_le 4 k (fun z => by omega) (fun _ => ⟨pk_in (4 * n + k) 96 (by omega) i4, nm_r (e' := upd NW (4 * n + k) 0) (by rw [i4, nI_clamp (by omega)]) (nm_r (nI_1 k) (ih (k + 1) (by omega) (upd NW (4 * n + k) 0) (fun g hg => ?_) (fun j hj => ?_) f (by omega)))⟩)
    · by_cases z : g = k
      · rw [z, pk_us]
      · rw [pk_un (by omega)]; exact g1 g (by omega)
    · rw [pk_un (by omega)]; exact g2 j hj
theorem xq_count (W : tc_wf c) (R : xl_R c a_left a_ruleCost a_ruleSize a_rulePart) (A : xl_A c a_helperOperator a_helperFirst a_helperSecond a_chainFrom) (F : tt_F op sp tn) (Nd : xn_N op sp tn a_operator a_firstPart a_secondPart) {b0 top : Nat} (ht : top < tn) (hb : ∀ n, b0 ≤ n → n ≤ top → 2 ≤ op n → b0 ≤ tt_x op sp n) (Cs : ∀ m, b0 ≤ m → m ≤ top → xn_C c op sp a_nodeCost m) {post : SX → Prop} {n : Nat} (h1 : b0 ≤ n) (h2 : n ≤ top)
    (K : ∀ (wk : Int32) (WE WN NW : Nat → Int32), wy_F c op sp (xw_Q NW) n → (∀ j, (j < 4 * n ∨ 4 * n + 4 ≤ j) → NW j = a_nodeWays j) → post (f_drafted, f_patternHeight, nI (tc_nr c), f_nodes, f_treeHeight, f_isLaid, nI (tc_N c), f_stateCount, f_isWhole, f_tooMany, f_trialLeast, f_covered, wk, f_fromStates, f_whereFirst, f_whereSecond, a_draft, a_patternBegin, a_left, a_ruleCost, a_ruleSize, a_rulePart, a_operator, a_firstPart, a_secondPart, a_stack, a_treeBegin, a_helperOperator, a_helperFirst, a_helperSecond, a_chainFrom, a_openParts, a_stateCost, a_leafState, a_leafAdd, a_oneState, a_oneAdd, a_twoState, a_twoAdd, a_trial, a_nodeCost, NW, a_cover, WE, WN, a_nodeState, a_nodeBase)) : wpX_countWays post (f_drafted, f_patternHeight, nI (tc_nr c), f_nodes, f_treeHeight, f_isLaid, nI (tc_N c), f_stateCount, f_isWhole, f_tooMany, f_trialLeast, f_covered, f_works, f_fromStates, f_whereFirst, f_whereSecond, a_draft, a_patternBegin, a_left, a_ruleCost, a_ruleSize, a_rulePart, a_operator, a_firstPart, a_secondPart, a_stack, a_treeBegin, a_helperOperator, a_helperFirst, a_helperSecond, a_chainFrom, a_openParts, a_stateCost, a_leafState, a_leafAdd, a_oneState, a_oneAdd, a_twoState, a_twoAdd, a_trial, a_nodeCost, a_nodeWays, a_cover, a_workEntry, a_workNode, a_nodeState, a_nodeBase) (nI n) := by
  have h24 := F.1
  have hN := tc_N_le W
  have hw := tt_A_le (c := c) F (show n < tn by omega)
  refine ⟨5, xq_2 (show n < 24 by omega) (fun NW g1 g2 => ?_) 4 0 rfl a_nodeWays (fun g hg => absurd hg (Nat.not_lt_zero _)) (fun j _ => rfl) 5 (by omega)⟩
  refine xg_next (n := n) (T := 0) (w := tt_A c op sp n) (by omega) hw (fun g hg => Cs n h1 h2 g (by omega)) (Or.inl ⟨rfl, rfl⟩) (fun x hx => ⟨5, ?_⟩)
  exact xq_33 W R A F Nd ht hb Cs h1 h2 (fun wk WE WN NW' q1 q2 => K wk WE WN NW' q1 q2) 4 0 rfl 0 x _ _ _ NW (xq_I_of (fun g _ _ z => absurd z (Nat.not_lt_zero _)) (fun g hg _ => g1 g hg)) hx (tn_ct_le _ 4) g2 5 (by omega)
theorem xq_52 (W : tc_wf c) (R : xl_R c a_left a_ruleCost a_ruleSize a_rulePart) (A : xl_A c a_helperOperator a_helperFirst a_helperSecond a_chainFrom) (F : tt_F op sp tn) (Nd : xn_N op sp tn a_operator a_firstPart a_secondPart) {b0 top : Nat} (ht : top < tn) (hb : ∀ n, b0 ≤ n → n ≤ top → 2 ≤ op n → b0 ≤ tt_x op sp n) (Cs : ∀ m, b0 ≤ m → m ≤ top → xn_C c op sp a_nodeCost m) {post : Int32 → SX → Prop} {g : Nat} (hg : g < 4)
    (K : ∀ (wk : Int32) (WE WN NW : Nat → Int32), (∀ n, b0 ≤ n → n ≤ top → wy_F c op sp (xw_Q NW) n) → post (xw_Q NW top g) (f_drafted, f_patternHeight, nI (tc_nr c), f_nodes, f_treeHeight, f_isLaid, nI (tc_N c), f_stateCount, f_isWhole, f_tooMany, f_trialLeast, f_covered, wk, f_fromStates, f_whereFirst, f_whereSecond, a_draft, a_patternBegin, a_left, a_ruleCost, a_ruleSize, a_rulePart, a_operator, a_firstPart, a_secondPart, a_stack, a_treeBegin, a_helperOperator, a_helperFirst, a_helperSecond, a_chainFrom, a_openParts, a_stateCost, a_leafState, a_leafAdd, a_oneState, a_oneAdd, a_twoState, a_twoAdd, a_trial, a_nodeCost, NW, a_cover, WE, WN, a_nodeState, a_nodeBase)) :
    ∀ d n, n + d = top + 1 → b0 ≤ n → ∀ (wk : Int32) (WE WN NW : Nat → Int32), (∀ m, b0 ≤ m → m < n → wy_F c op sp (xw_Q NW) m) → ∀ f, d < f → wX_ways_52 post (nI g) (nI top) f (nI n) f_drafted f_patternHeight (nI (tc_nr c)) f_nodes f_treeHeight f_isLaid (nI (tc_N c)) f_stateCount f_isWhole f_tooMany f_trialLeast f_covered wk f_fromStates f_whereFirst f_whereSecond a_draft a_patternBegin a_left a_ruleCost a_ruleSize a_rulePart a_operator a_firstPart a_secondPart a_stack a_treeBegin a_helperOperator a_helperFirst a_helperSecond a_chainFrom a_openParts a_stateCost a_leafState a_leafAdd a_oneState a_oneAdd a_twoState a_twoAdd a_trial a_nodeCost NW a_cover WE WN a_nodeState a_nodeBase := by
  have h24 := F.1
  intro d
  induction d with
  | zero =>
    intro n hn hbn wk WE WN NW hF f hf
    obtain ⟨f, rfl⟩ : ∃ m, f = m + 1 := ⟨f - 1, by omega⟩
    have i4 : (4 : Int32) * nI top + nI g = nI (4 * top + g) := by rw [show (4 : Int32) = nI 4 from rfl, pk_mul, nI_add]
    refine pk_lt top n (fun _ => ⟨pk_in (4 * top + g) 96 (by omega) i4, ?_⟩) (fun z => by omega)
    rw [i4, nI_clamp (by omega)]
    exact K wk WE WN NW (fun m m1 m2 => hF m m1 (by omega))
  | succ d ih =>
    intro n hn hbn wk WE WN NW hF f hf
    obtain ⟨f, rfl⟩ : ∃ m, f = m + 1 := ⟨f - 1, by omega⟩
    refine pk_lt top n (fun z => by omega) (fun _ => xq_count W R A F Nd ht hb Cs hbn (by omega) (fun wk' WE' WN' NW' q1 q2 => nm_r (nI_1 n) ?_))
    refine ih (n + 1) (by omega) (by omega) wk' WE' WN' NW' (fun m m1 m2 => ?_) f (by omega)
    by_cases z : m = n
    · rw [z]; exact q1
    · have eQ : ∀ k, k < n → ∀ h, h < 4 → xw_Q NW' k h = xw_Q NW k h := fun k hk h hh => q2 _ (by omega)
      intro h hh
      rw [eQ m (by omega) h hh, hF m m1 (by omega) h hh]
      by_cases y : tt_A c op sp m h < 1000000
      · rw [if_pos y, if_pos y]
        exact (wy_S_x W F ht hb m1 (by omega) (fun q hq _ => eQ m (by omega) q hq) (fun k k1 k2 q hq => eQ k (by omega) q hq) _ (Nat.le_refl _)).symm
      · rw [if_neg y, if_neg y]
end
end
section
/-! Y: patternWays, isBest, sumRules, rankOf, countAt -/
section
variable {g_noted g_depth g_rules g_planted g_trees g_stateCount g_known g_listed : Int32} {b_marks b_sizes b_lefts b_costs b_lengths b_operators b_spans b_least b_ways b_tasks b_list : Nat → Int32} {c : tc_C} {op sp : Nat → Nat} {tn : Nat}
def yv_R (c : tc_C) (op sp : Nat → Nat) (WY : Nat → Int32) (Q : Nat → Nat → Int32) (m : Nat) : Prop := (∀ g, g < 4 → WY (74 * m + g) = Q m g) ∧ ∀ p, tc_us c p → WY (74 * m + 4 + p) = wy_p c op sp Q m p
theorem yv_pw (W : tc_wf c) (U : yw_U c b_marks b_sizes b_lefts b_costs b_lengths) (F : tt_F op sp tn) (Nd : yt_N op sp tn b_operators b_spans) {post : Int32 → Prop} {Q : Nat → Nat → Int32} {n r i : Nat} (hn : n < tn) (hr : r < tc_nr c) (hi : i < tc_rn c r) (hG : ∀ g, g < 4 → b_ways (74 * n + g) = Q n g) (hR : ∀ m, m < n → yv_R c op sp b_ways Q m)
    (K : post (wy_p c op sp Q n (7 * r + i))) : wpY_patternWays post (g_noted, g_depth, g_rules, g_planted, g_trees, g_stateCount, g_known, g_listed, b_marks, b_sizes, b_lefts, b_costs, b_lengths, b_operators, b_spans, b_least, b_ways, b_tasks, b_list) (nI n) (nI r) (nI i) := by
  have h24 := F.1
  have h10 := W.1
  obtain ⟨u1, u2, u3, u4⟩ := U r hr
  have h7 := (W.2 r hr).2.2.2.1
  have hus := tc_us_of hr hi W
  obtain ⟨l1, l2, l3, l4, l5, -⟩ := tc_loc W hus
  obtain ⟨t1, t2, t3, t4, t5, -⟩ := tt_loc F hn
  obtain ⟨p, ep⟩ : ∃ p, p = 7 * r + i := ⟨_, rfl⟩
  have hp : p < 70 := by omega
  have e1 : (7 : Int32) * nI r + nI i = nI p := by rw [yw_7, ep]
  have e2 : b_marks (7 * nI r + nI i).toNatClampNeg = nI (tc_mk c p) := by rw [e1, nI_clamp (by omega), ep]; exact (u4 i hi).1
  have e3 : (4 : Int32) + 7 * nI r + nI i - 1 = nI (3 + p) := by
    rw [show (4 : Int32) = nI 4 from rfl, show (7 : Int32) = nI 7 from rfl, pk_mul, nI_add, nI_add, ep]
    exact pk_sub (a := 4 + 7 * r + i) (b := 1) (by omega) |>.trans (congrArg nI (by omega))
  have e0 : b_operators (nI n).toNatClampNeg = nI (op n) := by rw [nI_clamp (by omega)]; exact (Nd n hn).1
  rw [← ep] at l1 l2 l3 l4 l5 K hus
  refine ⟨pk_in p 77 (by omega) e1, nm_r e2 ⟨vp_in_nI (by omega) (by decide), nm_r e0 (pk_le (tc_mk c p) 9 (fun h9 => ?_) (fun h9 => ?_) rfl rfl (by omega))⟩⟩
  · refine pk_eq (tc_mk c p) (op n) (fun e => nm_r e3 ?_) (fun e => ?_) rfl rfl (by omega) (by omega)
    · by_cases z : op n < 2
      · rw [wy_p_0 (by omega) e z] at K
        refine nm_e (br_t (nI_lt (b := 4) (by omega) (by decide)) (br_f (nI_ge (b := 4) (by omega) (by decide)) (br_f (nI_ge (b := 2) z (by decide)) K)))
      · have hn1 := t4 (by omega)
        have m3 := l4 (by omega) (by omega)
        have f0 : nI n - 1 = nI (n - 1) := pk_sub (a := n) (b := 1) hn1
        have f5 : (74 : Int32) * nI (n - 1) + nI (3 + p) = nI (74 * (n - 1) + 4 + (p - 1)) := by rw [xt_74]; exact congrArg nI (by omega)
        have i5 : vp_in (74 * nI (n - 1) + nI (3 + p)) 1776 := by rw [f5]; exact vp_in_nI (by omega) (by decide)
        have g5 : b_ways (74 * nI (n - 1) + nI (3 + p)).toNatClampNeg = wy_p c op sp Q (n - 1) (p - 1) := by rw [f5, nI_clamp (by omega)]; exact (hR (n - 1) (by omega)).2 _ m3.2
        refine nm_r f0 (pk_lt (op n) 4 (fun h4 => ?_) (fun h4 => ?_))
        · rw [wy_p_1 W hus (by omega) e (by omega) h4] at K
          refine br_f (nI_ge (b := 4) h4 (by decide)) (br_t (nI_le (a := 2) (by omega) (by omega)) ⟨i5, ?_⟩)
          rw [g5]
          have ex : tt_x op sp n = n - 1 := if_pos h4
          have ef : tc_fp c p = p - 1 := if_pos (by omega)
          rw [ex, ef] at K
          exact K
        · rw [wy_p_2 W hus (by omega) e h4] at K
          have m5 := l5 (by omega) (by omega)
          have m6 := t5 h4
          have ex : tt_x op sp n = n - 1 - sp (n - 1) := if_neg (by omega)
          have ef : tc_fp c p = p - 1 - tc_sz c (p - 1) := if_neg (by omega)
          have f1 : nI p - 1 = nI (p - 1) := pk_sub (a := p) (b := 1) m3.1
          have i6 : vp_in ((7 : Int32) * nI r + nI i - 1) 77 := by rw [e1, f1]; exact vp_in_nI (by omega) (by decide)
          have f2 : b_sizes ((7 : Int32) * nI r + nI i - 1).toNatClampNeg = nI (tc_sz c (p - 1)) := by
            rw [e1, f1, nI_clamp (by omega)]
            have := (U ((p - 1) / 7) m3.2.1).2.2.2 ((p - 1) % 7) m3.2.2
            rw [show 7 * ((p - 1) / 7) + (p - 1) % 7 = p - 1 by omega] at this
            exact this.2
          have f6 : nI (n - 1) - b_spans (nI (n - 1)).toNatClampNeg = nI (tt_x op sp n) := by rw [nI_clamp (by omega), (Nd (n - 1) (by omega)).2, pk_sub (by omega), ex]
          have f7 : (74 : Int32) * nI (tt_x op sp n) + nI (3 + p) - b_sizes ((7 : Int32) * nI r + nI i - 1).toNatClampNeg = nI (74 * tt_x op sp n + 4 + tc_fp c p) := by
            rw [f2, xt_74, pk_sub (by omega), ef]; exact congrArg nI (by omega)
          have hx : tt_x op sp n < n := by omega
          refine br_f (nI_ne0 (by omega) (by omega)) ⟨vp_in_nI (by omega) (by decide), ?_⟩
          rw [f6]
          refine br_t (nI_le (a := 4) h4 (by omega)) ⟨i6, pk_in (74 * tt_x op sp n + 4 + tc_fp c p) 1776 (by omega) f7, i5, ?_⟩
          rw [f7, g5, nI_clamp (by omega), (hR _ hx).2 _ (by rw [ef]; exact m5.2)]
          exact K
    · rw [wy_p_n (by omega) e] at K
      exact K
  · have e4 : (74 : Int32) * nI n + nI (tc_mk c p) - 10 = nI (74 * n + (tc_mk c p - 10)) := by
      rw [xt_74]
      exact pk_sub (a := 74 * n + tc_mk c p) (b := 10) (by omega) |>.trans (congrArg nI (by omega))
    refine ⟨pk_in (74 * n + (tc_mk c p - 10)) 1776 (by omega) e4, ?_⟩
    rw [wy_p_g (by omega)] at K
    rw [e4, nI_clamp (by omega), hG _ (by omega)]
    exact K
theorem yv_best (W : tc_wf c) (U : yw_U c b_marks b_sizes b_lefts b_costs b_lengths) (F : tt_F op sp tn) {post : Int32 → Prop} {n g r : Nat} (hn : n < tn) (hr : r < tc_nr c) (hg : g < 4) (Rn : yw_R c b_least n (tt_A c op sp n)) (K1 : wy_B c op sp n g r → post 1) (K0 : ¬ wy_B c op sp n g r → post 0) : wpY_isBest post (g_noted, g_depth, g_rules, g_planted, g_trees, g_stateCount, g_known, g_listed, b_marks, b_sizes, b_lefts, b_costs, b_lengths, b_operators, b_spans, b_least, b_ways, b_tasks, b_list) (nI n) (nI g) (nI r) := by
  have h24 := F.1
  have h10 := W.1
  obtain ⟨u1, u2, u3, u4⟩ := U r hr
  obtain ⟨w1, w2, w3, w4, -⟩ := W.2 r hr
  have i1 : vp_in (nI r) 10 := vp_in_nI (by omega) (by decide)
  have b1 := tt_A_le (c := c) F hn (tc_cf c r)
  have b2 := tt_A_le (c := c) F hn g
  have e1 : (74 : Int32) * nI n + 4 + 7 * nI r + b_lengths (nI r).toNatClampNeg - 1 = nI (74 * n + 4 + (7 * r + tc_rn c r - 1)) := by
    rw [nI_clamp (by omega), u3, show (74 : Int32) = nI 74 from rfl, show (4 : Int32) = nI 4 from rfl, show (7 : Int32) = nI 7 from rfl, pk_mul, pk_mul, nI_add, nI_add, nI_add]
    exact pk_sub (a := 74 * n + 4 + 7 * r + tc_rn c r) (b := 1) (by omega) |>.trans (congrArg nI (by omega))
  have e2 : b_least (74 * nI n + 4 + 7 * nI r + b_lengths (nI r).toNatClampNeg - 1).toNatClampNeg = nI (tt_A c op sp n (tc_cf c r)) := by rw [e1, nI_clamp (by omega)]; exact Rn.2 _ (tc_us_rt W hr)
  refine ⟨i1, pk_in (74 * n + 4 + (7 * r + tc_rn c r - 1)) 3404 (by omega) e1, nm_r e2 ⟨i1, pk_eq (tc_lf c r) g (fun e => pk_le 1000000 (tt_A c op sp n (tc_cf c r)) (fun z => K0 (fun q => ?_)) (fun z => ⟨i1, pk_in (74 * n + g) 3404 (by omega) (xt_74 n g), ?_⟩)) (fun e => K0 (fun q => e q.1)) (by rw [nI_clamp (by omega)]; exact u1)⟩⟩
  · have := q.2.1
    omega
  · exact pk_eq (tt_A c op sp n (tc_cf c r) + tc_rc c r) (tt_A c op sp n g) (fun y => K1 ⟨e, z, y⟩) (fun y => K0 (fun q => y q.2.2)) (by rw [nI_clamp (by omega), u2, nI_add]) (by rw [xt_74, nI_clamp (by omega)]; exact Rn.1 g hg)
theorem yv_sum (W : tc_wf c) (U : yw_U c b_marks b_sizes b_lefts b_costs b_lengths) (F : tt_F op sp tn) (Nd : yt_N op sp tn b_operators b_spans) {post : Int32 → Prop} {Q : Nat → Nat → Int32} {n g : Nat} (hn : n < tn) (hg : g < 4) (Rn : yw_R c b_least n (tt_A c op sp n)) (hG : ∀ g, g < 4 → b_ways (74 * n + g) = Q n g) (hR : ∀ m, m < n → yv_R c op sp b_ways Q m) (K : post (wy_S c op sp Q n g (tc_nr c))) :
    ∀ d r, r + d = tc_nr c → ∀ f, d < f → wY_sumRules_5 post (nI n) (nI g) g_noted g_depth (nI (tc_nr c)) g_planted g_trees g_stateCount g_known g_listed b_marks b_sizes b_lefts b_costs b_lengths b_operators b_spans b_least b_ways b_tasks b_list f (wy_S c op sp Q n g r) (nI r) := by
  have h10 := W.1
  intro d
  induction d with
  | zero =>
    intro r hr f hf
    obtain ⟨f, rfl⟩ : ∃ m, f = m + 1 := ⟨f - 1, by omega⟩
    have er : r = tc_nr c := by omega
    subst er
    exact pk_le (tc_nr c) (tc_nr c) (fun _ => K) (fun z => by omega)
  | succ d ih =>
    intro r hr f hf
    obtain ⟨f, rfl⟩ : ∃ m, f = m + 1 := ⟨f - 1, by omega⟩
    have hlt : r < tc_nr c := by omega
    have u3 := (U r hlt).2.2.1
    have w := W.2 r hlt
    have w3 := w.2.2.1
    have w4 := w.2.2.2.1
    have nx := ih (r + 1) (by omega) f (by omega)
    have e1 : b_lengths (nI r).toNatClampNeg - 1 = nI (tc_rn c r - 1) := by rw [nI_clamp (by omega), u3]; exact pk_sub (a := tc_rn c r) (b := 1) w3
    refine pk_le (tc_nr c) r (fun z => by omega) (fun _ => yv_best W U F hn hlt hg Rn (fun hB => br_f (by decide) ⟨vp_in_nI (by omega) (by decide), ?_⟩) (fun hB => br_t rfl (nm_r (nI_1 r) ?_)))
    · rw [e1]
      refine yv_pw W U F Nd hn hlt (show tc_rn c r - 1 < tc_rn c r by omega) hG hR (nm_e (nm_r (nI_1 r) ?_))
      rw [wy_S_t hB] at nx
      rw [show 7 * r + (tc_rn c r - 1) = wy_rt c r by unfold wy_rt; omega]
      exact nx
    · rw [wy_S_f hB] at nx
      exact nx
theorem yv_rank {post : Int32 → Prop} {n g : Nat} {w : Nat → Nat} (hn : n < 24) (hg : g < 4) (hw : ∀ g, w g ≤ 1000000) (Rn : ∀ g, g < 4 → b_least (74 * n + g) = nI (w g)) (K : post (nI (tn_ct (fun h => w h < w g) 4))) :
    ∀ d k, k + d = 4 → ∀ f, d < f → wY_rankOf_5 post (nI n) (nI g) g_noted g_depth g_rules g_planted g_trees g_stateCount g_known g_listed b_marks b_sizes b_lefts b_costs b_lengths b_operators b_spans b_least b_ways b_tasks b_list f (nI (tn_ct (fun h => w h < w g) k)) (nI k) := by
  intro d
  induction d with
  | zero =>
    intro k hk f hf
    obtain ⟨f, rfl⟩ : ∃ m, f = m + 1 := ⟨f - 1, by omega⟩
    have ek : k = 4 := by omega
    subst ek
    exact pk_le 4 4 (fun _ => K) (fun z => by omega)
  | succ d ih =>
    intro k hk f hf
    obtain ⟨f, rfl⟩ : ∃ m, f = m + 1 := ⟨f - 1, by omega⟩
    have nx := ih (k + 1) (by omega) f (by omega)
    have b1 := hw g
    have b2 := hw k
    have e1 : b_least (74 * nI n + nI g).toNatClampNeg = nI (w g) := by rw [xt_74, nI_clamp (by omega)]; exact Rn g hg
    have e2 : b_least (74 * nI n + nI k).toNatClampNeg = nI (w k) := by rw [xt_74, nI_clamp (by omega)]; exact Rn k (by omega)
    refine pk_le 4 k (fun z => by omega) (fun _ => ⟨pk_in (74 * n + k) 3404 (by omega) (xt_74 n k), pk_in (74 * n + g) 3404 (by omega) (xt_74 n g), pk_le (w g) (w k) (fun z => nm_r (nI_1 k) ?_) (fun z => nm_r (nI_1 _) (nm_r (nI_1 k) ?_)) e1 e2⟩)
    · have e : tn_ct (fun h => w h < w g) (k + 1) = tn_ct (fun h => w h < w g) k := by
        show tn_ct (fun h => w h < w g) k + tc_b (w k < w g) = _
        rw [tc_b_f (by omega)]; rfl
      rw [e] at nx
      exact nx
    · have e : tn_ct (fun h => w h < w g) (k + 1) = tn_ct (fun h => w h < w g) k + 1 := by
        show tn_ct (fun h => w h < w g) k + tc_b (w k < w g) = _
        rw [tc_b_t (by omega)]
      rw [e] at nx
      exact nx
/-- rows of ways at node n, as far as the goals D are done -/
def yv_D (c : tc_C) (op sp : Nat → Nat) (Q : Nat → Nat → Int32) (n : Nat) (D : Nat → Prop) : Prop := (∀ g, g < 4 → tt_A c op sp n g < 1000000 → D g → Q n g = wy_S c op sp Q n g (tc_nr c)) ∧ ∀ g, g < 4 → ¬ (tt_A c op sp n g < 1000000 ∧ D g) → Q n g = 0
def yv_u (Q : Nat → Nat → Int32) (n b : Nat) (v : Int32) : Nat → Nat → Int32 := fun m g => if m = n ∧ g = b then v else Q m g
theorem yv_u_s {Q : Nat → Nat → Int32} {n b : Nat} {v : Int32} : yv_u Q n b v n b = v := if_pos ⟨rfl, rfl⟩
theorem yv_u_n {Q : Nat → Nat → Int32} {n b m g : Nat} {v : Int32} (h : ¬ (m = n ∧ g = b)) : yv_u Q n b v m g = Q m g := if_neg h
theorem yv_D_s (W : tc_wf c) (F : tt_F op sp tn) {Q : Nat → Nat → Int32} {n b : Nat} {D D' : Nat → Prop} (hn : n < tn) (hI : yv_D c op sp Q n D) (hb4 : b < 4) (hbf : tt_A c op sp n b < 1000000) (hle : ∀ g, g < 4 → tt_A c op sp n g < 1000000 → D g → tt_A c op sp n g ≤ tt_A c op sp n b) (hD : ∀ g, g < 4 → (D' g ↔ D g ∨ g = b)) :
    yv_D c op sp (yv_u Q n b (wy_S c op sp Q n b (tc_nr c))) n D' := by
  have ext : ∀ g, g < 4 → tt_A c op sp n g ≤ tt_A c op sp n b → wy_S c op sp (yv_u Q n b (wy_S c op sp Q n b (tc_nr c))) n g (tc_nr c) = wy_S c op sp Q n g (tc_nr c) := fun g hg hl =>
    wy_S_x W F hn (b0 := 0) (top := n) (fun _ _ _ _ => Nat.zero_le _) (Nat.zero_le _) (Nat.le_refl _) (fun h hh hlt => yv_u_n (fun z => by rw [z.2] at hlt; omega)) (fun m _ m2 h hh => yv_u_n (fun z => by omega)) _ (Nat.le_refl _)
  refine ⟨fun g hg hf hd => ?_, fun g hg hd => ?_⟩
  · by_cases z : g = b
    · subst z
      rw [yv_u_s, ext g hg (Nat.le_refl _)]
    · have hd' : D g := ((hD g hg).mp hd).resolve_right z
      rw [yv_u_n (fun q => z q.2), ext g hg (hle g hg hf hd')]
      exact hI.1 g hg hf hd'
  · have z : g ≠ b := fun z => hd ⟨by rw [z]; exact hbf, (hD g hg).mpr (Or.inr z)⟩
    rw [yv_u_n (fun q => z q.2)]
    exact hI.2 g hg (fun q => hd ⟨q.1, (hD g hg).mpr (Or.inl q.2)⟩)
theorem yv_R_x (W : tc_wf c) (F : tt_F op sp tn) {WY WY' : Nat → Int32} {Q Q' : Nat → Nat → Int32} {m : Nat} (hm : m < tn) (h : yv_R c op sp WY Q m) (h1 : ∀ j, 74 * m ≤ j → j < 74 * m + 74 → WY' j = WY j) (h2 : ∀ k, k ≤ m → ∀ g, g < 4 → Q' k g = Q k g) : yv_R c op sp WY' Q' m := by
  refine ⟨fun g hg => ?_, fun p hp => ?_⟩
  · rw [h1 _ (by omega) (by omega), h2 m (Nat.le_refl _) g hg]; exact h.1 g hg
  · have := (tc_us_lt W hp).2
    rw [h1 _ (by omega) (by omega), h.2 p hp]
    exact (wy_P_x W F hm (b0 := 0) (top := m) (fun _ _ _ _ => Nat.zero_le _) 7 m p hp (Nat.zero_le _) (Nat.le_refl _) (fun z => h2 m (Nat.le_refl _) _ (by have := (tc_loc W hp).1; omega)) (fun k _ k2 g hg => h2 k (by omega) g hg)).symm
theorem wy_F_x (W : tc_wf c) (F : tt_F op sp tn) {Q Q' : Nat → Nat → Int32} {m : Nat} (hm : m < tn) (h : wy_F c op sp Q m) (h2 : ∀ k, k ≤ m → ∀ g, g < 4 → Q' k g = Q k g) : wy_F c op sp Q' m := fun g hg => by
  rw [h2 m (Nat.le_refl _) g hg, h g hg]
  by_cases y : tt_A c op sp m g < 1000000
  · rw [if_pos y, if_pos y]
    exact (wy_S_x W F hm (b0 := 0) (top := m) (fun _ _ _ _ => Nat.zero_le _) (Nat.zero_le _) (Nat.le_refl _) (fun q hq _ => h2 m (Nat.le_refl _) q hq) (fun k _ k2 q hq => h2 k (by omega) q hq) _ (Nat.le_refl _)).symm
  · rw [if_neg y, if_neg y]
noncomputable def yv_k (c : tc_C) (op sp : Nat → Nat) (n g : Nat) : Nat := tn_ct (fun h => tt_A c op sp n h < tt_A c op sp n g) 4
theorem yv_k_lt {n g h : Nat} (hg : g < 4) (hl : tt_A c op sp n g < tt_A c op sp n h) : yv_k c op sp n g < yv_k c op sp n h :=
  tn_ct_lt (P := fun k => tt_A c op sp n k < tt_A c op sp n g) (Q := fun k => tt_A c op sp n k < tt_A c op sp n h) (a := g) (fun z => Nat.lt_irrefl _ z) hl 4 hg (fun j _ z => Nat.lt_trans z hl)
theorem yv_k_le3 {n g : Nat} (hg : g < 4) : yv_k c op sp n g < 4 := by
  have := tn_ct_lt (P := fun h => tt_A c op sp n h < tt_A c op sp n g) (Q := fun _ => True) (a := g) (fun z => Nat.lt_irrefl _ z) trivial 4 hg (fun _ _ _ => trivial)
  rw [tn_ct_all 4 (fun _ _ => trivial)] at this
  exact this
/-- the state of the count at node n: rows below are whole -/
def yv_S (c : tc_C) (op sp : Nat → Nat) (WY : Nat → Int32) (Q : Nat → Nat → Int32) (n : Nat) : Prop := (∀ g, g < 4 → WY (74 * n + g) = Q n g) ∧ (∀ m, m < n → yv_R c op sp WY Q m) ∧ ∀ m, m < n → wy_F c op sp Q m
theorem yv_S_u (W : tc_wf c) (F : tt_F op sp tn) {WY : Nat → Int32} {Q : Nat → Nat → Int32} {n b : Nat} {v : Int32} (hn : n < tn) (hb : b < 4) (S : yv_S c op sp WY Q n) : yv_S c op sp (upd WY (74 * n + b) v) (yv_u Q n b v) n := by
  obtain ⟨s1, s2, s3⟩ := S
  refine ⟨fun g hg => ?_, fun m hm => yv_R_x W F (by omega) (s2 m hm) (fun j h1 h2 => pk_un (by omega)) (fun k hk g hg => yv_u_n (by omega)), fun m hm => wy_F_x W F (by omega) (s3 m hm) (fun k hk g hg => yv_u_n (by omega))⟩
  by_cases z : g = b
  · rw [z, pk_us, yv_u_s]
  · rw [pk_un (by omega), yv_u_n (fun q => z q.2)]; exact s1 g hg
end
end
section
/-! Y: countAt, ways -/
section
variable {g_noted g_depth g_rules g_planted g_trees g_stateCount g_known g_listed : Int32} {b_marks b_sizes b_lefts b_costs b_lengths b_operators b_spans b_least b_ways b_tasks b_list : Nat → Int32} {c : tc_C} {op sp : Nat → Nat} {tn : Nat}
theorem yc_110 (W : tc_wf c) (U : yw_U c b_marks b_sizes b_lefts b_costs b_lengths) (F : tt_F op sp tn) (Nd : yt_N op sp tn b_operators b_spans) {post : SY → Prop} {J : Int32 → (Nat → Int32) → (Nat → Int32) → (Nat → Int32) → (Nat → Int32) → (Nat → Int32) → (Nat → Int32) → (Nat → Int32) → (Nat → Int32) → (Nat → Int32) → (Nat → Int32) → (Nat → Int32) → Prop} {n r : Nat} {Q : Nat → Nat → Int32} (hn : n < tn) (hr : r < tc_nr c)
    (K : ∀ WY : Nat → Int32, yv_S c op sp WY Q n → (∀ p, tc_us c p → p < 7 * r + 7 → WY (74 * n + 4 + p) = wy_p c op sp Q n p) → J (nI (r + 1)) b_marks b_sizes b_lefts b_costs b_lengths b_operators b_spans b_least WY b_tasks b_list) :
    ∀ d i, i + d = tc_rn c r → ∀ WY : Nat → Int32, yv_S c op sp WY Q n → (∀ p, tc_us c p → p < 7 * r + i → WY (74 * n + 4 + p) = wy_p c op sp Q n p) → ∀ f, d < f → wY_countAt_110 post J (nI n) (nI r) g_noted g_depth (nI (tc_nr c)) g_planted g_trees g_stateCount g_known g_listed f (nI i) b_marks b_sizes b_lefts b_costs b_lengths b_operators b_spans b_least WY b_tasks b_list := by
  have h24 := F.1
  have h10 := W.1
  have u3 := (U r hr).2.2.1
  have w4 := (W.2 r hr).2.2.2.1
  have i1 : vp_in (nI r) 10 := vp_in_nI (by omega) (by decide)
  have c1 : b_lengths (nI r).toNatClampNeg = nI (tc_rn c r) := by rw [nI_clamp (by omega)]; exact u3
  intro d
  induction d with
  | zero =>
    intro i hi WY S P f hf
    obtain ⟨f, rfl⟩ : ∃ m, f = m + 1 := ⟨f - 1, by omega⟩
    have ei : i = tc_rn c r := by omega
    subst ei
    refine ⟨i1, pk_le (tc_rn c r) (tc_rn c r) (fun _ => nm_r (nI_1 r) (K WY S (fun p hp hlt => P p hp ?_))) (fun z => by omega) c1⟩
    have q := hp.2
    rcases Nat.lt_or_ge p (7 * r) with z | z
    · omega
    · rw [show p / 7 = r by omega] at q
      omega
  | succ d ih =>
    intro i hi WY S P f hf
    obtain ⟨f, rfl⟩ : ∃ m, f = m + 1 := ⟨f - 1, by omega⟩
    have e1 : (74 : Int32) * nI n + 4 + 7 * nI r + nI i = nI (74 * n + 4 + (7 * r + i)) := by
      rw [show (74 : Int32) = nI 74 from rfl, show (4 : Int32) = nI 4 from rfl, show (7 : Int32) = nI 7 from rfl, pk_mul, pk_mul, nI_add, nI_add, nI_add]
      exact congrArg nI (by omega)
    refine ⟨i1, pk_le (tc_rn c r) i (fun z => by omega) (fun _ => yv_pw W U F Nd hn hr (show i < tc_rn c r by omega) S.1 S.2.1 ⟨pk_in (74 * n + 4 + (7 * r + i)) 1776 (by omega) e1, nm_r (e' := upd WY (74 * n + 4 + (7 * r + i)) (wy_p c op sp Q n (7 * r + i))) (by rw [e1, nI_clamp (by omega)]) (nm_r (nI_1 i) ?_)⟩) c1⟩
    refine ih (i + 1) (by omega) (upd WY (74 * n + 4 + (7 * r + i)) (wy_p c op sp Q n (7 * r + i))) ⟨fun g hg => ?_, fun m hm => yv_R_x W F (by omega) (S.2.1 m hm) (fun j h1 h2 => pk_un (by omega)) (fun _ _ _ _ => rfl), S.2.2⟩ (fun p hp hlt => ?_) f (by omega)
    · rw [pk_un (by omega)]; exact S.1 g hg
    · by_cases z : p = 7 * r + i
      · rw [z, pk_us]
      · rw [pk_un (by omega)]; exact P p hp (by omega)
theorem yc_100 (W : tc_wf c) (U : yw_U c b_marks b_sizes b_lefts b_costs b_lengths) (F : tt_F op sp tn) (Nd : yt_N op sp tn b_operators b_spans) {post : SY → Prop} {n : Nat} {Q : Nat → Nat → Int32} (hn : n < tn)
    (K : ∀ WY : Nat → Int32, yv_S c op sp WY Q n → (∀ p, tc_us c p → WY (74 * n + 4 + p) = wy_p c op sp Q n p) → post (g_noted, g_depth, nI (tc_nr c), g_planted, g_trees, g_stateCount, g_known, g_listed, b_marks, b_sizes, b_lefts, b_costs, b_lengths, b_operators, b_spans, b_least, WY, b_tasks, b_list)) :
    ∀ d r, r + d = tc_nr c → ∀ WY : Nat → Int32, yv_S c op sp WY Q n → (∀ p, tc_us c p → p < 7 * r → WY (74 * n + 4 + p) = wy_p c op sp Q n p) → ∀ f, d < f → wY_countAt_100 post (nI n) g_noted g_depth (nI (tc_nr c)) g_planted g_trees g_stateCount g_known g_listed f (nI r) b_marks b_sizes b_lefts b_costs b_lengths b_operators b_spans b_least WY b_tasks b_list := by
  have h10 := W.1
  intro d
  induction d with
  | zero =>
    intro r hr WY S P f hf
    obtain ⟨f, rfl⟩ : ∃ m, f = m + 1 := ⟨f - 1, by omega⟩
    have er : r = tc_nr c := by omega
    subst er
    exact pk_le (tc_nr c) (tc_nr c) (fun _ => K WY S (fun p hp => P p hp (tc_us_lt W hp).1)) (fun z => by omega)
  | succ d ih =>
    intro r hr WY S P f hf
    obtain ⟨f, rfl⟩ : ∃ m, f = m + 1 := ⟨f - 1, by omega⟩
    have w4 := (W.2 r (by omega)).2.2.2.1
    refine pk_le (tc_nr c) r (fun z => by omega) (fun _ => ⟨8, ?_⟩)
    exact yc_110 W U F Nd hn (show r < tc_nr c by omega) (fun WY' S' P' => ih (r + 1) (by omega) WY' S' (fun p hp hlt => P' p hp (by omega)) f (by omega)) (tc_rn c r) 0 (by omega) WY S P 8 (by omega)
def yc_D (c : tc_C) (op sp : Nat → Nat) (n C k : Nat) : Nat → Prop := fun g => yv_k c op sp n g < C ∨ (yv_k c op sp n g = C ∧ g < k)
theorem yv_D_eq {Q : Nat → Nat → Int32} {n : Nat} {D D' : Nat → Prop} (h : yv_D c op sp Q n D) (he : ∀ g, g < 4 → tt_A c op sp n g < 1000000 → (D' g ↔ D g)) : yv_D c op sp Q n D' :=
  ⟨fun g hg hf hd => h.1 g hg hf ((he g hg hf).mp hd), fun g hg hd => h.2 g hg (fun q => hd ⟨q.1, (he g hg q.1).mpr q.2⟩)⟩
theorem yc_34 (W : tc_wf c) (U : yw_U c b_marks b_sizes b_lefts b_costs b_lengths) (F : tt_F op sp tn) (Nd : yt_N op sp tn b_operators b_spans) {post : SY → Prop} {J : Int32 → (Nat → Int32) → (Nat → Int32) → (Nat → Int32) → (Nat → Int32) → (Nat → Int32) → (Nat → Int32) → (Nat → Int32) → (Nat → Int32) → (Nat → Int32) → (Nat → Int32) → (Nat → Int32) → Prop} {n C : Nat} (hn : n < tn) (hC : C < 5) (Rn : yw_R c b_least n (tt_A c op sp n))
    (K : ∀ (WY : Nat → Int32) (Q : Nat → Nat → Int32), yv_S c op sp WY Q n → yv_D c op sp Q n (yc_D c op sp n (C + 1) 0) → J (nI (C + 1)) b_marks b_sizes b_lefts b_costs b_lengths b_operators b_spans b_least WY b_tasks b_list) :
    ∀ d k, k + d = 4 → ∀ (WY : Nat → Int32) (Q : Nat → Nat → Int32), yv_S c op sp WY Q n → yv_D c op sp Q n (yc_D c op sp n C k) → ∀ f, d < f → wY_countAt_34 post J (nI n) (nI C) g_noted g_depth (nI (tc_nr c)) g_planted g_trees g_stateCount g_known g_listed f (nI k) b_marks b_sizes b_lefts b_costs b_lengths b_operators b_spans b_least WY b_tasks b_list := by
  have h24 := F.1
  have hw := tt_A_le (c := c) F hn
  intro d
  induction d with
  | zero =>
    intro k hk WY Q S D f hf
    obtain ⟨f, rfl⟩ : ∃ m, f = m + 1 := ⟨f - 1, by omega⟩
    have ek : k = 4 := by omega
    subst ek
    refine pk_le 4 4 (fun _ => nm_r (nI_1 C) (K WY Q S (yv_D_eq D (fun g hg _ => ?_)))) (fun z => by omega)
    unfold yc_D
    constructor
    · intro h; omega
    · intro h; omega
  | succ d ih =>
    intro k hk WY Q S D f hf
    obtain ⟨f, rfl⟩ : ∃ m, f = m + 1 := ⟨f - 1, by omega⟩
    have hk4 : k < 4 := by omega
    have b1 := hw k
    have rk := yv_k_le3 (c := c) (op := op) (sp := sp) (n := n) hk4
    have e1 : b_least (74 * nI n + nI k).toNatClampNeg = nI (tt_A c op sp n k) := by rw [xt_74, nI_clamp (by omega)]; exact Rn.1 k hk4
    have skip : ¬ (tt_A c op sp n k < 1000000 ∧ yv_k c op sp n k = C) → wY_countAt_34 post J (nI n) (nI C) g_noted g_depth (nI (tc_nr c)) g_planted g_trees g_stateCount g_known g_listed f (nI (k + 1)) b_marks b_sizes b_lefts b_costs b_lengths b_operators b_spans b_least WY b_tasks b_list := fun hne => ih (k + 1) (by omega) WY Q S (yv_D_eq D (fun g hg hgf => by
      unfold yc_D
      by_cases z : g = k
      · subst z
        have : yv_k c op sp n g ≠ C := fun q => hne ⟨hgf, q⟩
        constructor
        · intro h; omega
        · intro h; omega
      · constructor
        · intro h; omega
        · intro h; omega)) f (by omega)
    refine pk_le 4 k (fun z => by omega) (fun _ => ⟨5, yv_rank (n := n) (w := tt_A c op sp n) (by omega) hk4 hw Rn.1 ?_ 4 0 rfl 5 (by omega)⟩)
    refine pk_eq (yv_k c op sp n k) C (fun q => ⟨pk_in (74 * n + k) 3404 (by omega) (xt_74 n k), pk_le 1000000 (tt_A c op sp n k) (fun z => nm_r (nI_1 k) (skip (fun h => by omega))) (fun z => ⟨tc_nr c + 1, ?_⟩) rfl e1⟩) (fun q => nm_r (nI_1 k) (skip (fun h => q h.2))) rfl rfl (by omega)
    refine yv_sum W U F Nd hn hk4 Rn S.1 S.2.1 ⟨pk_in (74 * n + k) 1776 (by omega) (xt_74 n k), nm_r (e' := upd WY (74 * n + k) (wy_S c op sp Q n k (tc_nr c))) (by rw [xt_74, nI_clamp (by omega)]) (nm_r (nI_1 k) ?_)⟩ (tc_nr c) 0 (by omega) (tc_nr c + 1) (by omega)
    refine ih (k + 1) (by omega) (upd WY (74 * n + k) (wy_S c op sp Q n k (tc_nr c))) (yv_u Q n k (wy_S c op sp Q n k (tc_nr c))) (yv_S_u W F hn hk4 S) (yv_D_s W F hn D hk4 z (fun g hg hgf hd => ?_) (fun g hg => ?_)) f (by omega)
    · rcases Nat.lt_or_ge (tt_A c op sp n k) (tt_A c op sp n g) with y | y
      · have := yv_k_lt (c := c) (op := op) (sp := sp) hk4 y
        unfold yc_D at hd
        omega
      · exact y
    · unfold yc_D
      by_cases y : g = k
      · subst y
        exact ⟨fun _ => Or.inr rfl, fun _ => Or.inr ⟨q, by omega⟩⟩
      · constructor
        · intro h; exact Or.inl (by omega)
        · intro h
          rcases h with h | h
          · omega
          · exact absurd h y
theorem yc_27 (W : tc_wf c) (U : yw_U c b_marks b_sizes b_lefts b_costs b_lengths) (F : tt_F op sp tn) (Nd : yt_N op sp tn b_operators b_spans) {post : SY → Prop} {n : Nat} (hn : n < tn) (Rn : yw_R c b_least n (tt_A c op sp n))
    (K : ∀ (WY : Nat → Int32) (Q : Nat → Nat → Int32), yv_S c op sp WY Q n → wy_F c op sp Q n → (∀ p, tc_us c p → WY (74 * n + 4 + p) = wy_p c op sp Q n p) → post (g_noted, g_depth, nI (tc_nr c), g_planted, g_trees, g_stateCount, g_known, g_listed, b_marks, b_sizes, b_lefts, b_costs, b_lengths, b_operators, b_spans, b_least, WY, b_tasks, b_list)) :
    ∀ d C, C + d = 5 → ∀ (WY : Nat → Int32) (Q : Nat → Nat → Int32), yv_S c op sp WY Q n → yv_D c op sp Q n (yc_D c op sp n C 0) → ∀ f, d < f → wY_countAt_27 post (nI n) g_noted g_depth (nI (tc_nr c)) g_planted g_trees g_stateCount g_known g_listed f (nI C) b_marks b_sizes b_lefts b_costs b_lengths b_operators b_spans b_least WY b_tasks b_list := by
  intro d
  induction d with
  | zero =>
    intro C hC WY Q S D f hf
    obtain ⟨f, rfl⟩ : ∃ m, f = m + 1 := ⟨f - 1, by omega⟩
    have eC : C = 5 := by omega
    subst eC
    have hF : wy_F c op sp Q n := fun g hg => by
      have rk := yv_k_le3 (c := c) (op := op) (sp := sp) (n := n) hg
      by_cases z : tt_A c op sp n g < 1000000
      · rw [if_pos z]; exact D.1 g hg z (Or.inl (by omega))
      · rw [if_neg z]; exact D.2 g hg (fun q => z q.1)
    exact pk_le 5 5 (fun _ => ⟨tc_nr c + 1, yc_100 W U F Nd hn (fun WY' S' P' => K WY' Q S' hF P') (tc_nr c) 0 (by omega) WY S (fun p _ h => absurd h (Nat.not_lt_zero _)) (tc_nr c + 1) (by omega)⟩) (fun z => by omega)
  | succ d ih =>
    intro C hC WY Q S D f hf
    obtain ⟨f, rfl⟩ : ∃ m, f = m + 1 := ⟨f - 1, by omega⟩
    exact pk_le 5 C (fun z => by omega) (fun _ => ⟨5, yc_34 W U F Nd hn (show C < 5 by omega) Rn (fun WY' Q' S' D' => ih (C + 1) (by omega) WY' Q' S' D' f (by omega)) 4 0 rfl WY Q S D 5 (by omega)⟩)
theorem yc_2 (W : tc_wf c) (U : yw_U c b_marks b_sizes b_lefts b_costs b_lengths) (F : tt_F op sp tn) (Nd : yt_N op sp tn b_operators b_spans) {post : SY → Prop} {n : Nat} {Q : Nat → Nat → Int32} (hn : n < tn) (Rn : yw_R c b_least n (tt_A c op sp n)) (h1 : ∀ m, m < n → yv_R c op sp b_ways Q m) (h2 : ∀ m, m < n → wy_F c op sp Q m)
    (K : ∀ (WY : Nat → Int32) (Q : Nat → Nat → Int32), yv_S c op sp WY Q n → wy_F c op sp Q n → (∀ p, tc_us c p → WY (74 * n + 4 + p) = wy_p c op sp Q n p) → post (g_noted, g_depth, nI (tc_nr c), g_planted, g_trees, g_stateCount, g_known, g_listed, b_marks, b_sizes, b_lefts, b_costs, b_lengths, b_operators, b_spans, b_least, WY, b_tasks, b_list)) :
    ∀ d k, k + d = 4 → ∀ WY : Nat → Int32, (∀ g, g < k → WY (74 * n + g) = 0) → (∀ j, j < 74 * n → WY j = b_ways j) → ∀ f, d < f → wY_countAt_2 post (nI n) g_noted g_depth (nI (tc_nr c)) g_planted g_trees g_stateCount g_known g_listed f (nI k) b_marks b_sizes b_lefts b_costs b_lengths b_operators b_spans b_least WY b_tasks b_list := by
  have h24 := F.1
  intro d
  induction d with
  | zero =>
    intro k hk WY g1 g2 f hf
    obtain ⟨f, rfl⟩ : ∃ m, f = m + 1 := ⟨f - 1, by omega⟩
    have ek : k = 4 := by omega
    subst ek
    have en : ∀ g, (fun m g => if m = n then (0 : Int32) else Q m g) n g = 0 := fun g => if_pos rfl
    have eo : ∀ m, m < n → ∀ g, (fun m g => if m = n then (0 : Int32) else Q m g) m g = Q m g := fun m hm g => if_neg (by omega)
    refine pk_le 4 4 (fun _ => ⟨6, yc_27 W U F Nd hn Rn K 5 0 rfl WY (fun m g => if m = n then 0 else Q m g) ⟨fun g hg => (g1 g hg).trans (en g).symm, fun m hm => yv_R_x W F (by omega) (h1 m hm) (fun j j1 j2 => g2 j (by omega)) (fun k hk g _ => eo k (by omega) g), fun m hm => wy_F_x W F (by omega) (h2 m hm) (fun k hk g _ => eo k (by omega) g)⟩ ⟨fun g hg _ hd => ?_, fun g hg _ => en g⟩ 6 (by omega)⟩) (fun z => by omega)
    unfold yc_D at hd
    omega
  | succ d ih =>
    intro k hk WY g1 g2 f hf
    obtain ⟨f, rfl⟩ : ∃ m, f = m + 1 := ⟨f - 1, by omega⟩
    refine pk_le 4 k (fun z => by omega) (fun _ => ⟨pk_in (74 * n + k) 1776 (by omega) (xt_74 n k), nm_r (e' := upd WY (74 * n + k) 0) (by rw [xt_74, nI_clamp (by omega)]) (nm_r (nI_1 k) (ih (k + 1) (by omega) (upd WY (74 * n + k) 0) (fun g hg => ?_) (fun j hj => ?_) f (by omega)))⟩)
    · by_cases z : g = k
      · rw [z, pk_us]
      · rw [pk_un (by omega)]; exact g1 g (by omega)
    · rw [pk_un (by omega)]; exact g2 j hj
theorem yc_25 (W : tc_wf c) (U : yw_U c b_marks b_sizes b_lefts b_costs b_lengths) (F : tt_F op sp tn) (Nd : yt_N op sp tn b_operators b_spans) {post : Int32 → SY → Prop} {g : Nat} (hg : g < 4) (ht : 1 ≤ tn) (Rs : ∀ m, m < tn → yw_R c b_least m (tt_A c op sp m))
    (K : ∀ (WY : Nat → Int32) (Q : Nat → Nat → Int32), (∀ m, m < tn → wy_F c op sp Q m) → post (Q (tn - 1) g) (g_noted, g_depth, nI (tc_nr c), nI tn, g_trees, g_stateCount, g_known, g_listed, b_marks, b_sizes, b_lefts, b_costs, b_lengths, b_operators, b_spans, b_least, WY, b_tasks, b_list)) :
    ∀ d n, n + d = tn → ∀ (WY : Nat → Int32) (Q : Nat → Nat → Int32), (∀ m, m < n → yv_R c op sp WY Q m) → (∀ m, m < n → wy_F c op sp Q m) → ∀ f, d < f → wY_ways_25 post (nI g) f (nI n) g_noted g_depth (nI (tc_nr c)) (nI tn) g_trees g_stateCount g_known g_listed b_marks b_sizes b_lefts b_costs b_lengths b_operators b_spans b_least WY b_tasks b_list := by
  have h24 := F.1
  intro d
  induction d with
  | zero =>
    intro n hn WY Q h1 h2 f hf
    obtain ⟨f, rfl⟩ : ∃ m, f = m + 1 := ⟨f - 1, by omega⟩
    have en : n = tn := by omega
    subst en
    have e1 : (74 : Int32) * (nI n - 1) + nI g = nI (74 * (n - 1) + g) := by rw [show nI n - 1 = nI (n - 1) from pk_sub (a := n) (b := 1) ht, xt_74]
    refine pk_le n n (fun _ => ⟨pk_in (74 * (n - 1) + g) 1776 (by omega) e1, ?_⟩) (fun z => by omega)
    rw [e1, nI_clamp (by omega), (h1 (n - 1) (by omega)).1 g hg]
    exact K WY Q h2
  | succ d ih =>
    intro n hn WY Q h1 h2 f hf
    obtain ⟨f, rfl⟩ : ∃ m, f = m + 1 := ⟨f - 1, by omega⟩
    refine pk_le tn n (fun z => by omega) (fun _ => ⟨5, ?_⟩)
    refine yc_2 W U F Nd (n := n) (Q := Q) (by omega) (Rs n (by omega)) h1 h2 (fun WY' Q' S' F' P' => nm_r (nI_1 n) ?_) 4 0 rfl WY (fun g hg => absurd hg (Nat.not_lt_zero _)) (fun j _ => rfl) 5 (by omega)
    refine ih (n + 1) (by omega) WY' Q' (fun m hm => ?_) (fun m hm => ?_) f (by omega)
    · by_cases z : m = n
      · rw [z]; exact ⟨S'.1, P'⟩
      · exact S'.2.1 m (by omega)
    · by_cases z : m = n
      · rw [z]; exact F'
      · exact S'.2.2 m (by omega)
end
end
section
/-! ways -/
theorem i_vc_ways {k : Nat} {u : SX} {v : SY} (I : i_Rel k u v) (hk : k + 3 ≤ 1536) (v1 : Int32) : wpX_ways (fun r u' => wpY_ways (fun r' v' => r' = r ∧ i_Rel (k + 3) u' v') v v1) u v1 := by
  refine rl_el (P := fun u v => wpX_ways (fun r u' => wpY_ways (fun r' v' => r' = r ∧ i_Rel (k + 3) u' v') v v1) u v1) I ?_
  intro f_drafted f_patternHeight f_rules f_nodes f_treeHeight f_isLaid f_entries f_stateCount f_isWhole f_tooMany f_trialLeast f_covered f_works f_fromStates f_whereFirst f_whereSecond a_draft a_patternBegin a_left a_ruleCost a_ruleSize a_rulePart a_operator a_firstPart a_secondPart a_stack a_treeBegin a_helperOperator a_helperFirst a_helperSecond a_chainFrom a_openParts a_stateCost a_leafState a_leafAdd a_oneState a_oneAdd a_twoState a_twoAdd a_trial a_nodeCost a_nodeWays a_cover a_workEntry a_workNode a_nodeState a_nodeBase g_noted g_depth g_rules g_planted g_trees g_stateCount g_known g_listed b_marks b_sizes b_lefts b_costs b_lengths b_operators b_spans b_least b_ways b_tasks b_list c op sp rt tn D C T H K V
  rcases pk_ix v1 (n := 4) (by decide) with h | h | ⟨g, hg, rfl⟩
  · exact br_t h (br_f (by decide) (br_t h ⟨rfl, rl_in D C T H K V⟩))
  · obtain ⟨h1, h2, h3, -⟩ := sm_4 h
    exact br_f h1 (br_f h2 (br_f (by decide) (br_f h1 (br_f h3 ⟨rfl, rl_in D C T H K V⟩))))
  · obtain ⟨rfl, rfl, c3, c4, c5⟩ := C
    have T0 := T
    obtain ⟨rfl, rfl, rfl, rfl, t5, t6, t7, t8, t9, t10⟩ := T
    have n0 : ¬ nI g < 0 := nI_pos (by omega)
    have n4 : nI g < 4 := nI_lt (b := 4) (by omega) (by decide)
    have n3 : nI g ≤ 3 := nI_le (b := 3) (by omega) (by decide)
    have h24 := t5.1
    have hN := tc_N_le c3
    have ht1 : 0 < tc_ht op tn → 1 ≤ tn := fun h => by have := tc_ht_le op tn; omega
    refine br_f n0 (br_t n4 (br_t rfl ?_))
    by_cases z : tc_ht op tn = 0
    · refine sl_neg (by rw [z]; decide) (br_t rfl (br_f n0 (br_t n3 (yt_top c3 c5 t5 t9 t6 hg ht1 (fun _ L R Fr => br_f (by decide) ⟨rfl, ?_⟩) (fun h => by omega)))))
      exact rl_in D ⟨rfl, rfl, c3, c4, c5⟩ T0 H (rl_K_fr c3 K Fr) V
    · obtain ⟨h, eh⟩ : ∃ h, tc_ht op tn = h + 1 := ⟨tc_ht op tn - 1, by omega⟩
      have t7' := t7
      rw [eh] at t7'
      obtain ⟨r1, r2, r3⟩ := rt_top t7'
      have e1 : nI (tc_ht op tn) - 1 = nI h := by rw [eh, nI_pred]
      obtain ⟨q1, q2, q3⟩ := tt_rng t5 t7 (j := h) (by omega)
      have A9 := tt_A_le (c := c) t5 (show tn - 1 < tn by omega) g
      have i8 : vp_in (nI (tc_ht op tn) - 1) 8 := by rw [e1]; exact vp_in_nI (by omega) (by decide)
      refine sl_lab c3 c4 H t5 t6 t7 t8 t10 (pl := h) (by omega) e1 (fun sc sv fw tm tl fs w1 w2 ho hf hs ch oq SC LS LA OS OA TS TA tr NC NS NB A T' Wh Fw Cs Fr' => br_f (by decide) ?_)
      refine ⟨i8, nm_r (e' := nI (rt h)) (by rw [e1, nI_clamp (by omega)]; exact (t10 h (by omega)).1) ⟨i8, nm_r (e' := nI (tc_bg rt h)) (by rw [e1, nI_clamp (by omega)]; exact (t10 h (by omega)).2) ⟨rt h + 2, ?_⟩⟩⟩
      refine xq_52 c3 c4 A t5 t8 q1 q3 Cs hg (fun wk WE WN NW hF => ?_) (rt h + 1 - tc_bg rt h) (tc_bg rt h) (by omega) (Nat.le_refl _) _ _ _ _ (fun m m1 m2 => by omega) (rt h + 2) (by omega)
      have rel : ∀ (L WY : Nat → Int32), (∀ j, 74 * 24 ≤ j → L j = b_least j) → i_Rel (k + 3) (f_drafted, f_patternHeight, nI (tc_nr c), nI tn, nI (tc_ht op tn), 1, nI (tc_N c), nI sc, fw, tm, tl, f_covered, wk, fs, w1, w2, a_draft, a_patternBegin, a_left, a_ruleCost, a_ruleSize, a_rulePart, a_operator, a_firstPart, a_secondPart, a_stack, a_treeBegin, ho, hf, hs, ch, oq, SC, LS, LA, OS, OA, TS, TA, tr, NC, NW, a_cover, WE, WN, NS, NB) (g_noted, g_depth, nI (tc_nr c), nI tn, nI (tc_ht op tn), g_stateCount, g_known, g_listed, b_marks, b_sizes, b_lefts, b_costs, b_lengths, b_operators, b_spans, L, WY, b_tasks, b_list) := fun L WY Fr => rl_in D ⟨rfl, rfl, c3, c4, c5⟩ T0 (sf_H A T' Wh) (rl_K_fr c3 K Fr) (rl_W_lay V Fw)
      have er : tn - 1 = rt h := by omega
      refine br_f n0 (br_t n3 (yt_top c3 c5 t5 t9 t6 hg ht1 (fun h => absurd h z) (fun _ L R Fr => pk_lt (tt_A c op sp (tn - 1) g) 1000000 (fun q => ⟨tn + 1, ?_⟩) (fun q => ⟨?_, rel L _ Fr⟩))))
      · refine yc_25 c3 c5 t5 t9 hg (by omega) R (fun WY Q hFy => ⟨?_, rel L WY Fr⟩) tn 0 (by omega) _ (fun _ _ => 0) (fun m hm => absurd hm (Nat.not_lt_zero _)) (fun m hm => absurd hm (Nat.not_lt_zero _)) (tn + 1) (by omega)
        rw [er]
        exact wy_un c3 t5 q1 q3 hF (fun n _ n2 => hFy n (by omega)) (rt h) q2 (Nat.le_refl _) g hg
      · rw [hF (rt h) q2 (Nat.le_refl _) g hg, if_neg (by rw [← er]; omega)]
end
section
/-! covers: one outcome for both machines -/
def cv_fr (c : tc_C) (op sp : Nat → Nat) (n g r : Nat) : Prop := r < tc_nr c ∧ wy_B c op sp n g r ∧ ∀ q, q < r → ¬ wy_B c op sp n g q
def cv_sp (c : tc_C) (op sp : Nat → Nat) (m p : Nat) : List (Nat × Nat) := if tc_mk c p < 10 then wk_pp c op sp m p else [(m, tc_mk c p - 10)]
/-- an item that has a cover -/
def cv_V (c : tc_C) (op sp : Nat → Nat) (b0 top m i : Nat) : Prop := ys_u c i ∧ b0 ≤ m ∧ m ≤ top ∧ tt_A c op sp m (ys_e c i) < 1000000
def cv_X (c : tc_C) (op sp : Nat → Nat) (b0 top B : Nat) (P : List (Nat × Nat) → List Nat → Nat → Prop) : Prop :=
  (∀ m i l o k r, k < B → cv_V c op sp b0 top m i → ys_e c i < 4 → cv_fr c op sp m (ys_e c i) r → P ((m, 4 + wy_rt c r) :: l) (o ++ [r]) (k + 1) → P ((m, i) :: l) o k) ∧
  (∀ m i l o k, k < B → cv_V c op sp b0 top m i → 4 ≤ ys_e c i → P (wk_pp c op sp m (i - 4) ++ l) o (k + 1) → P ((m, i) :: l) o k)
def cv_Y (c : tc_C) (op sp : Nat → Nat) (b0 top B : Nat) (P : List (Nat × Nat) → List Nat → Nat → Prop) : Prop :=
  (∀ m i l o k r, k < B → cv_V c op sp b0 top m i → i < 4 → cv_fr c op sp m i r → P (cv_sp c op sp m (wy_rt c r) ++ l) (o ++ [r]) (k + 1) → P ((m, i) :: l) o k) ∧
  (∀ m i l o k, k < B → cv_V c op sp b0 top m i → 4 ≤ i → P (cv_sp c op sp m (i - 4) ++ l) o (k + 1) → P ((m, i) :: l) o k)
section
variable {c : tc_C} {op sp : Nat → Nat} {tn b0 top : Nat}
theorem cv_ex (W : tc_wf c) (F : tt_F op sp tn) {n g : Nat} (hn : n < tn) (hg : g < 4) (hf : tt_A c op sp n g < 1000000) : ∃ r, cv_fr c op sp n g r := by
  obtain ⟨r0, h1, h2⟩ := wy_best W F hn hg hf
  obtain ⟨r, ⟨a, b⟩, d⟩ := pk_least (fun r => r < tc_nr c ∧ wy_B c op sp n g r) ⟨r0, h1, h2⟩
  exact ⟨r, a, b, fun q hq z => d q hq ⟨by omega, z⟩⟩
/-- an outcome: from the list li in front both machines come to nothing in front, with out put out -/
def cv_O (c : tc_C) (op sp : Nat → Nat) (b0 top : Nat) (lx ly : List (Nat × Nat)) (out : List Nat) (px py : Nat) : Prop :=
  (∀ B P, cv_X c op sp b0 top B P → ∀ l o k, k + px ≤ B → P l (o ++ out) (k + px) → P (lx ++ l) o k) ∧ (∀ B P, cv_Y c op sp b0 top B P → ∀ l o k, k + py ≤ B → P l (o ++ out) (k + py) → P (ly ++ l) o k)
theorem cv_O_0 : cv_O c op sp b0 top [] [] [] 0 0 := ⟨fun B P _ l o k _ h => by rw [List.append_nil] at h; exact h, fun B P _ l o k _ h => by rw [List.append_nil] at h; exact h⟩
theorem cv_O_app {lx ly lx' ly' : List (Nat × Nat)} {out out' : List Nat} {px py px' py' : Nat} (h : cv_O c op sp b0 top lx ly out px py) (h' : cv_O c op sp b0 top lx' ly' out' px' py') : cv_O c op sp b0 top (lx ++ lx') (ly ++ ly') (out ++ out') (px + px') (py + py') := by
  refine ⟨fun B P hP l o k hk hl => ?_, fun B P hP l o k hk hl => ?_⟩
  · rw [List.append_assoc]
    refine h.1 B P hP _ o k (by omega) (h'.1 B P hP l _ _ (by omega) ?_)
    rw [List.append_assoc, Nat.add_assoc]
    exact hl
  · rw [List.append_assoc]
    refine h.2 B P hP _ o k (by omega) (h'.2 B P hP l _ _ (by omega) ?_)
    rw [List.append_assoc, Nat.add_assoc]
    exact hl
/-- what is owed for an item at node m -/
def cv_I (c : tc_C) (op sp : Nat → Nat) (b0 top m : Nat) : Prop := ∀ i, cv_V c op sp b0 top m i → ∃ out px py, px ≤ 5 * sp m ∧ py ≤ 5 * sp m ∧ out.length ≤ px ∧ cv_O c op sp b0 top [(m, i)] [(m, i)] out px py
theorem cv_parts (W : tc_wf c) (F : tt_F op sp tn) (ht : top < tn) (hb : ∀ n, b0 ≤ n → n ≤ top → 2 ≤ op n → b0 ≤ tt_x op sp n) {m p : Nat} (h1 : b0 ≤ m) (h2 : m ≤ top) (hp : tc_op c p) (hf : tt_A c op sp m (tc_en c p) < 1000000) (ih : ∀ q, q < m → cv_I c op sp b0 top q) :
    ∃ out px py, px + 5 ≤ 5 * sp m ∧ py + 5 ≤ 5 * sp m ∧ out.length ≤ px ∧ cv_O c op sp b0 top (wk_pp c op sp m p) (wk_pp c op sp m p) out px py := by
  obtain ⟨f1, f2, f3⟩ := wy_fin W F (show m < tn by omega) hp hf
  obtain ⟨t1, t2, t3, t4, t5, t6, t7, t8⟩ := tt_loc F (show m < tn by omega)
  unfold wk_pp
  by_cases z : tc_mk c p < 2
  · rw [if_pos z]
    have := t6 (by omega)
    exact ⟨[], 0, 0, by omega, by omega, Nat.le_refl _, cv_O_0⟩
  · rw [if_neg z]
    obtain ⟨q1, q2, q3, q4⟩ := tc_fp_us W hp.1 (by omega) hp.2
    have hx := tt_x_lt F (show m < tn by omega) (by omega)
    have hbx := hb m h1 h2 (by omega)
    have v1 : cv_V c op sp b0 top (tt_x op sp m) (4 + tc_fp c p) := ⟨Or.inr ⟨by omega, by rw [show 4 + tc_fp c p - 4 = tc_fp c p by omega]; exact q1⟩, hbx, by omega, by rw [ys_e_4]; exact f2 (by omega)⟩
    obtain ⟨o1, px1, py1, a1, a2, a3, a4⟩ := ih _ hx _ v1
    by_cases y : tc_mk c p < 4
    · rw [if_pos y]
      have := t7 (by omega) (by omega)
      have ex : tt_x op sp m = m - 1 := if_pos (by omega)
      rw [ex] at a1 a2
      exact ⟨o1, px1, py1, by omega, by omega, a3, a4⟩
    · rw [if_neg y]
      obtain ⟨q5, q6⟩ := q3 (by omega)
      have hn1 := t4 (by omega)
      have v2 : cv_V c op sp b0 top (m - 1) (4 + (p - 1)) := ⟨Or.inr ⟨by omega, by rw [show 4 + (p - 1) - 4 = p - 1 by omega]; exact q5⟩, by omega, by omega, by rw [ys_e_4]; exact f3 (by omega)⟩
      obtain ⟨o2, px2, py2, b1, b2, b3, b4⟩ := ih _ (by omega) _ v2
      have := t8 (by omega)
      have ex : tt_x op sp m = m - 1 - sp (m - 1) := if_neg (by omega)
      rw [ex] at a1 a2
      refine ⟨o1 ++ o2, px1 + px2, py1 + py2, by omega, by omega, by rw [List.length_append]; omega, cv_O_app a4 b4⟩
/-- goals at a node, by rising costs -/
theorem cv_goal (W : tc_wf c) (F : tt_F op sp tn) (ht : top < tn) (hb : ∀ n, b0 ≤ n → n ≤ top → 2 ≤ op n → b0 ≤ tt_x op sp n) {m : Nat} (h1 : b0 ≤ m) (h2 : m ≤ top) (ih : ∀ q, q < m → cv_I c op sp b0 top q) :
    ∀ v g, g < 4 → tt_A c op sp m g < v → tt_A c op sp m g < 1000000 → ∃ out px py, px + 3 ≤ yv_k c op sp m g + 5 * sp m ∧ py + 4 ≤ yv_k c op sp m g + 5 * sp m ∧ out.length ≤ px ∧ ∀ i, cv_V c op sp b0 top m i → ys_e c i = g → cv_O c op sp b0 top [(m, i)] [(m, g)] out px py := by
  intro v
  induction v with
  | zero => intro g _ h; omega
  | succ v ihv =>
    intro g hg hv hf
    obtain ⟨r, hr⟩ := cv_ex W F (show m < tn by omega) hg hf
    obtain ⟨r1, r2, r3⟩ := hr
    have hus := tc_us_rt W r1
    have vg : cv_V c op sp b0 top m g := ⟨Or.inl hg, h1, h2, by rw [show ys_e c g = g from if_pos hg]; exact hf⟩
    have vr : cv_V c op sp b0 top m (4 + wy_rt c r) := ⟨Or.inr ⟨by omega, by rw [show 4 + wy_rt c r - 4 = wy_rt c r by omega]; exact hus⟩, h1, h2, by rw [ys_e_4]; exact r2.2.1⟩
    by_cases z : tc_mk c (wy_rt c r) < 10
    · have hop : tc_op c (wy_rt c r) := ⟨hus, z⟩
      obtain ⟨out, px, py, a1, a2, a3, a4⟩ := cv_parts W F ht hb h1 h2 hop r2.2.1 ih
      refine ⟨r :: out, px + 2, py + 1, by omega, by omega, by show out.length + 1 ≤ px + 2; omega, fun i vi ei => ⟨fun B P hP l o k hk hl => ?_, fun B P hP l o k hk hl => ?_⟩⟩
      · refine hP.1 m i l o k r (by omega) vi (by omega) (by rw [ei]; exact ⟨r1, r2, r3⟩) (hP.2 m (4 + wy_rt c r) l (o ++ [r]) (k + 1) (by omega) vr (by rw [ys_e_4]; exact tc_en_op4 hop) ?_)
        rw [show 4 + wy_rt c r - 4 = wy_rt c r by omega]
        refine a4.1 B P hP l (o ++ [r]) (k + 1 + 1) (by omega) ?_
        rw [List.append_assoc, show k + 1 + 1 + px = k + (px + 2) by omega]
        exact hl
      · refine hP.1 m g l o k r (by omega) vg hg ⟨r1, r2, r3⟩ ?_
        rw [show cv_sp c op sp m (wy_rt c r) = wk_pp c op sp m (wy_rt c r) from if_pos z]
        refine a4.2 B P hP l (o ++ [r]) (k + 1) (by omega) ?_
        rw [List.append_assoc, show k + 1 + py = k + (py + 1) by omega]
        exact hl
    · obtain ⟨g1, g2⟩ := wy_B_lt W r1 r2 z
      have rk := yv_k_lt (c := c) (op := op) (sp := sp) g1 g2
      obtain ⟨out, px, py, a1, a2, a3, a4⟩ := ihv (tc_mk c (wy_rt c r) - 10) g1 (by omega) (by omega)
      have ee : ys_e c (4 + wy_rt c r) = tc_mk c (wy_rt c r) - 10 := by rw [ys_e_4]; exact tc_en_go z
      have o4 := a4 (4 + wy_rt c r) vr ee
      refine ⟨r :: out, px + 1, py + 1, by omega, by omega, by show out.length + 1 ≤ px + 1; omega, fun i vi ei => ⟨fun B P hP l o k hk hl => ?_, fun B P hP l o k hk hl => ?_⟩⟩
      · refine hP.1 m i l o k r (by omega) vi (by omega) (by rw [ei]; exact ⟨r1, r2, r3⟩) (o4.1 B P hP l (o ++ [r]) (k + 1) (by omega) ?_)
        rw [List.append_assoc, show k + 1 + px = k + (px + 1) by omega]
        exact hl
      · refine hP.1 m g l o k r (by omega) vg hg ⟨r1, r2, r3⟩ ?_
        rw [show cv_sp c op sp m (wy_rt c r) = [(m, tc_mk c (wy_rt c r) - 10)] from if_neg z]
        refine o4.2 B P hP l (o ++ [r]) (k + 1) (by omega) ?_
        rw [List.append_assoc, show k + 1 + py = k + (py + 1) by omega]
        exact hl
theorem cv_main (W : tc_wf c) (F : tt_F op sp tn) (ht : top < tn) (hb : ∀ n, b0 ≤ n → n ≤ top → 2 ≤ op n → b0 ≤ tt_x op sp n) : ∀ m, cv_I c op sp b0 top m := by
  intro m
  induction m using Nat.strongRecOn with
  | ind m ih =>
    intro i vi
    obtain ⟨u, h1, h2, hf⟩ := vi
    have hsp := (tt_loc F (show m < tn by omega)).2.1
    by_cases z : ys_e c i < 4
    · obtain ⟨out, px, py, a1, a2, a3, a4⟩ := cv_goal W F ht hb h1 h2 ih (tt_A c op sp m (ys_e c i) + 1) (ys_e c i) z (by omega) hf
      have rk := yv_k_le3 (c := c) (op := op) (sp := sp) (n := m) z
      have o4 := a4 i ⟨u, h1, h2, hf⟩ rfl
      by_cases y : i < 4
      · have e : ys_e c i = i := if_pos y
        rw [e] at o4
        exact ⟨out, px, py, by omega, by omega, a3, o4⟩
      · refine ⟨out, px, py + 1, by omega, by omega, a3, o4.1, fun B P hP l o k hk hl => ?_⟩
        refine hP.2 m i l o k (by omega) ⟨u, h1, h2, hf⟩ (by omega) ?_
        have e : ys_e c i = tc_en c (i - 4) := if_neg y
        have hm : ¬ tc_mk c (i - 4) < 10 := fun w => by
          have := tc_en_op4 (c := c) ⟨(u.resolve_left y).2, w⟩
          omega
        rw [show cv_sp c op sp m (i - 4) = [(m, ys_e c i)] from by unfold cv_sp; rw [if_neg hm, e, tc_en_go hm]]
        refine o4.2 B P hP l o (k + 1) (by omega) ?_
        rw [show k + 1 + py = k + (py + 1) by omega]
        exact hl
    · obtain ⟨g1, g2, g3⟩ := ys_e_ge W u (by omega)
      rw [g3] at hf
      obtain ⟨out, px, py, a1, a2, a3, a4⟩ := cv_parts W F ht hb h1 h2 g2 hf ih
      refine ⟨out, px + 1, py + 1, by omega, by omega, by omega, fun B P hP l o k hk hl => ?_, fun B P hP l o k hk hl => ?_⟩
      · refine hP.2 m i l o k (by omega) ⟨u, h1, h2, by rw [g3]; exact hf⟩ (by omega) (a4.1 B P hP l o (k + 1) (by omega) ?_)
        rw [show k + 1 + px = k + (px + 1) by omega]
        exact hl
      · refine hP.2 m i l o k (by omega) ⟨u, h1, h2, by rw [g3]; exact hf⟩ g1 ?_
        rw [show cv_sp c op sp m (i - 4) = wk_pp c op sp m (i - 4) from if_pos g2.2]
        refine a4.2 B P hP l o (k + 1) (by omega) ?_
        rw [show k + 1 + py = k + (py + 1) by omega]
        exact hl
end
end
section
/-! X: firstRule, writeCover's loop; Y: best, spread, write's loop -/
def ov_L (CV : Nat → Int32) (o : List Nat) : Prop := ∀ j (h : j < o.length), CV j = nI (o[j])
theorem ov_L_push {CV : Nat → Int32} {o : List Nat} {r : Nat} (h : ov_L CV o) : ov_L (upd CV o.length (nI r)) (o ++ [r]) := by
  intro j hj
  rw [List.length_append] at hj
  have hj' : j < o.length + 1 := hj
  by_cases z : j = o.length
  · subst z
    rw [pk_us, List.getElem_concat_length rfl]
  · rw [pk_un z, List.getElem_append_left (by omega)]
    exact h j (by omega)
def wt_t (x : Nat × Nat) : Nat := if x.2 < 4 then 100 * x.1 + x.2 else 10000 + 100 * x.1 + (x.2 - 4)
def wt_S (TK : Nat → Int32) : List (Nat × Nat) → Prop
  | [] => True
  | x :: l => TK l.length = nI (wt_t x) ∧ wt_S TK l
theorem wt_S_up {TK : Nat → Int32} {k : Nat} {x : Int32} : ∀ l : List (Nat × Nat), l.length ≤ k → wt_S TK l → wt_S (upd TK k x) l
  | [], _, _ => trivial
  | z :: l, h, hs => by
    have hl : l.length + 1 ≤ k := h
    refine ⟨?_, wt_S_up l (by omega) hs.2⟩
    rw [pk_un (by omega)]; exact hs.1
theorem wt_S_push {TK : Nat → Int32} {l : List (Nat × Nat)} {y : Nat × Nat} {x : Int32} (hs : wt_S TK l) (hx : x = nI (wt_t y)) : wt_S (upd TK l.length x) (y :: l) := ⟨by rw [pk_us]; exact hx, wt_S_up l (Nat.le_refl _) hs⟩
section
variable {f_drafted f_patternHeight f_rules f_nodes f_treeHeight f_isLaid f_entries f_stateCount f_isWhole f_tooMany f_trialLeast f_covered f_works f_fromStates f_whereFirst f_whereSecond : Int32} {a_draft a_patternBegin a_left a_ruleCost a_ruleSize a_rulePart a_operator a_firstPart a_secondPart a_stack a_treeBegin a_helperOperator a_helperFirst a_helperSecond a_chainFrom a_openParts a_stateCost a_leafState a_leafAdd a_oneState a_oneAdd a_twoState a_twoAdd a_trial a_nodeCost a_nodeWays a_cover a_workEntry a_workNode a_nodeState a_nodeBase : Nat → Int32} {c : tc_C} {op sp : Nat → Nat} {tn b0 top : Nat}
theorem xv_first (W : tc_wf c) (R : xl_R c a_left a_ruleCost a_ruleSize a_rulePart) (A : xl_A c a_helperOperator a_helperFirst a_helperSecond a_chainFrom) (F : tt_F op sp tn) {post : Int32 → Prop} {n g r : Nat} (hn : n < tn) (hg : g < 4) (C : xn_C c op sp a_nodeCost n) (hr : cv_fr c op sp n g r) (K : post (nI r)) :
    ∀ d k, k + d = r → ∀ f, d < f → wX_firstRule_2 post (nI n) (nI g) f_drafted f_patternHeight (nI (tc_nr c)) f_nodes f_treeHeight f_isLaid (nI (tc_N c)) f_stateCount f_isWhole f_tooMany f_trialLeast f_covered f_works f_fromStates f_whereFirst f_whereSecond a_draft a_patternBegin a_left a_ruleCost a_ruleSize a_rulePart a_operator a_firstPart a_secondPart a_stack a_treeBegin a_helperOperator a_helperFirst a_helperSecond a_chainFrom a_openParts a_stateCost a_leafState a_leafAdd a_oneState a_oneAdd a_twoState a_twoAdd a_trial a_nodeCost a_nodeWays a_cover a_workEntry a_workNode a_nodeState a_nodeBase f (nI k) := by
  have h10 := W.1
  obtain ⟨r1, r2, r3⟩ := hr
  have cl : ∀ k, k < tc_nr c → a_left (nI k).toNatClampNeg = nI (tc_lf c k) := fun k hk => by rw [nI_clamp (by omega)]; exact (R k hk).1
  intro d
  induction d with
  | zero =>
    intro k hk f hf
    obtain ⟨f, rfl⟩ : ∃ m, f = m + 1 := ⟨f - 1, by omega⟩
    have ek : k = r := by omega
    subst ek
    have w1 := (W.2 k r1).1
    refine pk_le (tc_nr c) k (fun z => by omega) (fun _ => ⟨vp_in_nI (by omega) (by decide), pk_eq (tc_lf c k) g (fun e => ?_) (fun e => absurd r2.1 e) (cl k r1)⟩)
    exact xi_best W R A F hn r1 C (fun _ => br_f (by decide) K) (fun q => absurd (by rw [e]; exact r2) q)
  | succ d ih =>
    intro k hk f hf
    obtain ⟨f, rfl⟩ : ∃ m, f = m + 1 := ⟨f - 1, by omega⟩
    have hk1 : k < tc_nr c := by omega
    have w1 := (W.2 k hk1).1
    have nx := ih (k + 1) (by omega) f (by omega)
    refine pk_le (tc_nr c) k (fun z => by omega) (fun _ => ⟨vp_in_nI (by omega) (by decide), pk_eq (tc_lf c k) g (fun e => ?_) (fun e => nm_r (nI_1 k) nx) (cl k hk1)⟩)
    exact xi_best W R A F hn hk1 C (fun q => absurd (by rw [e] at q; exact q) (r3 k (by omega))) (fun q => br_t rfl (nm_r (nI_1 k) nx))
theorem xv_66 (W : tc_wf c) (R : xl_R c a_left a_ruleCost a_ruleSize a_rulePart) (A : xl_A c a_helperOperator a_helperFirst a_helperSecond a_chainFrom) (F : tt_F op sp tn) (Nd : xn_N op sp tn a_operator a_firstPart a_secondPart) (ht : top < tn) (hb : ∀ n, b0 ≤ n → n ≤ top → 2 ≤ op n → b0 ≤ tt_x op sp n) (Cs : ∀ m, b0 ≤ m → m ≤ top → xn_C c op sp a_nodeCost m) {post : Int32 → SX → Prop} :
    cv_X c op sp b0 top 400 (fun l o k => l.length ≤ k + 1 → o.length ≤ k → ∀ WE WN CV : Nat → Int32, wk_S c WE WN l → ov_L CV o → ∀ f, 400 < f + k → wX_writeCover_66 post f (nI k) f_drafted f_patternHeight (nI (tc_nr c)) f_nodes f_treeHeight f_isLaid (nI (tc_N c)) f_stateCount f_isWhole f_tooMany f_trialLeast (nI o.length) (nI l.length) f_fromStates f_whereFirst f_whereSecond a_draft a_patternBegin a_left a_ruleCost a_ruleSize a_rulePart a_operator a_firstPart a_secondPart a_stack a_treeBegin a_helperOperator a_helperFirst a_helperSecond a_chainFrom a_openParts a_stateCost a_leafState a_leafAdd a_oneState a_oneAdd a_twoState a_twoAdd a_trial a_nodeCost a_nodeWays CV WE WN a_nodeState a_nodeBase) := by
  have h24 := F.1
  have h10 := W.1
  have hN := tc_N_le W
  refine ⟨fun m i l o k r hk V he hr hP hl ho WE WN CV S O f hf => ?_, fun m i l o k hk V he hP hl ho WE WN CV S O f hf => ?_⟩
  all_goals
    obtain ⟨f, rfl⟩ : ∃ n, f = n + 1 := ⟨f - 1, by omega⟩
    obtain ⟨v1, v2, v3, v4⟩ := V
    obtain ⟨s1, s2, s3⟩ := S
    dsimp only at s1 s2
    have hl' : l.length + 1 ≤ k + 1 := hl
    have e1 : nI (((m, i) :: l).length) - 1 = nI l.length := nI_pred l.length
    have i7 : vp_in (nI l.length) 700 := vp_in_nI (by omega) (by decide)
    have c1 : WE (nI l.length).toNatClampNeg = nI (ys_e c i) := by rw [nI_clamp (by omega)]; exact s1
    have c2 : WN (nI l.length).toNatClampNeg = nI m := by rw [nI_clamp (by omega)]; exact s2
    have hw : ¬ nI (((m, i) :: l).length) ≤ 0 := nI_nle (n := ((m, i) :: l).length) (Nat.succ_pos _) (by show l.length + 1 < 2 ^ 31; omega)
  · obtain ⟨r1, r2, r3⟩ := hr
    have nx := hP (by show l.length + 1 ≤ k + 1 + 1; omega) (by rw [List.length_append]; show o.length + 1 ≤ k + 1; omega)
    have cf : a_chainFrom (nI r).toNatClampNeg = nI (tc_cf c r) := by rw [nI_clamp (by omega)]; exact A.2 r r1
    refine pk_le 400 k (fun z => by omega) (fun _ => br_f hw (nm_r e1 ⟨i7, nm_r c1 ⟨i7, nm_r c2 (br_f (nI_ge (b := 4) he (by decide)) ⟨r + 1, ?_⟩)⟩⟩))
    refine xv_first W R A F (show m < tn by omega) he (Cs m v2 v3) ⟨r1, r2, r3⟩ ⟨vp_in_nI (by omega) (by decide), nm_r (tc_upc (by omega) rfl) (nm_r (nI_1 _) ⟨vp_in_nI (by omega) (by decide), xa_work (by omega) (nm_r (nI_1 k) ?_)⟩)⟩ r 0 (by omega) (r + 1) (by omega)
    have q := nx (upd WE l.length (a_chainFrom (nI r).toNatClampNeg)) (upd WN l.length (nI m)) (upd CV o.length (nI r)) (wk_S_push s3 (by rw [ys_e_4]; exact cf) rfl) (ov_L_push O) f (by omega)
    rw [List.length_append] at q
    exact q
  · obtain ⟨g1, g2, g3⟩ := ys_e_ge W v1 he
    rw [g3] at v4 c1
    obtain ⟨f1, f2, f3⟩ := wy_fin W F (show m < tn by omega) g2 v4
    have hen := tc_en_lt W g2.1
    have hpp : (wk_pp c op sp m (i - 4)).length ≤ 2 := by
      unfold wk_pp
      split
      · exact Nat.zero_le _
      · split
        · show 1 ≤ 2; omega
        · show 2 ≤ 2; omega
    have nx := hP (by rw [List.length_append]; omega) (by omega)
    refine pk_le 400 k (fun z => by omega) (fun _ => br_f hw (nm_r e1 ⟨i7, nm_r c1 ⟨i7, nm_r c2 (br_t (nI_le (a := 4) (tc_en_op4 g2) (by omega)) ?_)⟩⟩))
    exact xa_parts W A F Nd (show m < tn by omega) g2 f1 s3 (by omega) (fun WE' WN' S' => nm_r (nI_1 k) (nx WE' WN' CV S' O f (by omega)))
end
section
variable {g_noted g_depth g_rules g_planted g_trees g_stateCount g_known g_listed : Int32} {b_marks b_sizes b_lefts b_costs b_lengths b_operators b_spans b_least b_ways b_tasks b_list : Nat → Int32} {c : tc_C} {op sp : Nat → Nat} {tn b0 top : Nat}
theorem yv_first (W : tc_wf c) (U : yw_U c b_marks b_sizes b_lefts b_costs b_lengths) (F : tt_F op sp tn) {post : Int32 → Prop} {n g r : Nat} (hn : n < tn) (hg : g < 4) (Rn : yw_R c b_least n (tt_A c op sp n)) (hr : cv_fr c op sp n g r) (K : post (nI r)) :
    ∀ d k, k + d = r → ∀ f, d < f → wY_best_2 post (nI n) (nI g) g_noted g_depth g_rules g_planted g_trees g_stateCount g_known g_listed b_marks b_sizes b_lefts b_costs b_lengths b_operators b_spans b_least b_ways b_tasks b_list f (nI k) := by
  obtain ⟨r1, r2, r3⟩ := hr
  intro d
  induction d with
  | zero =>
    intro k hk f hf
    obtain ⟨f, rfl⟩ : ∃ m, f = m + 1 := ⟨f - 1, by omega⟩
    have ek : k = r := by omega
    subst ek
    unfold wY_best_2
    refine yv_best W U F hn r1 hg Rn (fun _ => ?_) (fun q => absurd r2 q)
    exact br_f (by decide) K
  | succ d ih =>
    intro k hk f hf
    obtain ⟨f, rfl⟩ : ∃ m, f = m + 1 := ⟨f - 1, by omega⟩
    unfold wY_best_2
    refine yv_best W U F hn (show k < tc_nr c by omega) hg Rn (fun q => absurd q (r3 k (by omega))) (fun _ => ?_)
    exact br_t rfl (nm_r (nI_1 k) (ih (k + 1) (by omega) f (by omega)))
theorem yv_spr (W : tc_wf c) (U : yw_U c b_marks b_sizes b_lefts b_costs b_lengths) (F : tt_F op sp tn) (Nd : yt_N op sp tn b_operators b_spans) {post : Int32 → SY → Prop} {m r i : Nat} {l : List (Nat × Nat)} (hm : m < tn) (hr : r < tc_nr c) (hi : i < tc_rn c r) (hop : tc_mk c (7 * r + i) < 10 → tc_mk c (7 * r + i) = op m) (hl : l.length + 2 ≤ 400) (S : wt_S b_tasks l)
    (K : ∀ TK : Nat → Int32, wt_S TK (cv_sp c op sp m (7 * r + i) ++ l) → post (nI (cv_sp c op sp m (7 * r + i) ++ l).length) (g_noted, g_depth, g_rules, g_planted, g_trees, g_stateCount, g_known, g_listed, b_marks, b_sizes, b_lefts, b_costs, b_lengths, b_operators, b_spans, b_least, b_ways, TK, b_list)) : wpY_spread post (g_noted, g_depth, g_rules, g_planted, g_trees, g_stateCount, g_known, g_listed, b_marks, b_sizes, b_lefts, b_costs, b_lengths, b_operators, b_spans, b_least, b_ways, b_tasks, b_list) (nI r) (nI i) (nI m) (nI l.length) := by
  have h24 := F.1
  have h10 := W.1
  obtain ⟨u1, u2, u3, u4⟩ := U r hr
  have h7 := (W.2 r hr).2.2.2.1
  have hus := tc_us_of hr hi W
  obtain ⟨l1, l2, l3, l4, l5, -⟩ := tc_loc W hus
  obtain ⟨t1, t2, t3, t4, t5, -⟩ := tt_loc F hm
  obtain ⟨p, ep⟩ : ∃ p, p = 7 * r + i := ⟨_, rfl⟩
  have hp : p < 70 := by omega
  have e1 : (7 : Int32) * nI r + nI i = nI p := by rw [yw_7, ep]
  have e2 : b_marks (7 * nI r + nI i).toNatClampNeg = nI (tc_mk c p) := by rw [e1, nI_clamp (by omega), ep]; exact (u4 i hi).1
  rw [← ep] at l1 l2 l3 l4 l5 K hus hop
  have i4 : vp_in (nI l.length) 400 := vp_in_nI (by omega) (by decide)
  refine ⟨pk_in p 77 (by omega) e1, nm_r e2 (pk_le (tc_mk c p) 9 (fun h9 => ?_) (fun h9 => ?_) rfl rfl (by omega))⟩
  · have eo := hop (by omega)
    rw [show cv_sp c op sp m p = wk_pp c op sp m p from if_pos (by omega)] at K
    unfold wk_pp at K
    refine pk_le 2 (tc_mk c p) (fun h2 => ?_) (fun h2 => ?_) rfl rfl (by omega) (by omega)
    · rw [if_neg (by omega)] at K
      have hm1 := t4 (by omega)
      have m3 := l4 h2 (by omega)
      have fm : nI m - 1 = nI (m - 1) := pk_sub (a := m) (b := 1) hm1
      have f1 : nI p - 1 = nI (p - 1) := pk_sub (a := p) (b := 1) m3.1
      have ft : (10000 : Int32) + 100 * (nI m - 1) + 7 * nI r + nI i - 1 = nI (10000 + 100 * (m - 1) + (p - 1)) := by
        rw [fm, show (10000 : Int32) = nI 10000 from rfl, show (100 : Int32) = nI 100 from rfl, show (7 : Int32) = nI 7 from rfl, pk_mul, pk_mul, nI_add, nI_add, nI_add]
        exact pk_sub (a := 10000 + 100 * (m - 1) + 7 * r + i) (b := 1) (by omega) |>.trans (congrArg nI (by omega))
      refine ⟨i4, nm_r (tc_upc (by omega) ft) (nm_r (nI_1 _) (pk_le (tc_mk c p) 3 (fun h3 => ?_) (fun h3 => ?_) rfl rfl (by omega)))⟩
      · rw [if_pos (by omega)] at K
        refine K _ (wt_S_push S ?_)
        unfold wt_t
        rw [if_neg (show ¬ (tt_x op sp m, 4 + tc_fp c p).2 < 4 by show ¬ 4 + tc_fp c p < 4; omega)]
        show _ = nI (10000 + 100 * tt_x op sp m + (4 + tc_fp c p - 4))
        rw [show tt_x op sp m = m - 1 from if_pos (by omega), show tc_fp c p = p - 1 from if_pos (by omega)]
        exact congrArg nI (by omega)
      · rw [if_neg (by omega)] at K
        have m5 := l5 (by omega) (by omega)
        have m6 := t5 (by omega)
        have ex : tt_x op sp m = m - 1 - sp (m - 1) := if_neg (by omega)
        have ef : tc_fp c p = p - 1 - tc_sz c (p - 1) := if_neg (by omega)
        have f2 : b_sizes ((7 : Int32) * nI r + nI i - 1).toNatClampNeg = nI (tc_sz c (p - 1)) := by
          rw [e1, f1, nI_clamp (by omega)]
          have := (U ((p - 1) / 7) m3.2.1).2.2.2 ((p - 1) % 7) m3.2.2
          rw [show 7 * ((p - 1) / 7) + (p - 1) % 7 = p - 1 by omega] at this
          exact this.2
        have f6 : nI m - 1 - b_spans (nI m - 1).toNatClampNeg = nI (tt_x op sp m) := by rw [fm, nI_clamp (by omega), (Nd (m - 1) (by omega)).2, pk_sub (by omega), ex]
        have f7 : (10000 : Int32) + 100 * nI (tt_x op sp m) + 7 * nI r + nI i - 1 - b_sizes ((7 : Int32) * nI r + nI i - 1).toNatClampNeg = nI (10000 + 100 * tt_x op sp m + tc_fp c p) := by
          rw [f2, show (10000 : Int32) = nI 10000 from rfl, show (100 : Int32) = nI 100 from rfl, show (7 : Int32) = nI 7 from rfl, pk_mul, pk_mul, nI_add, nI_add, nI_add,
            show nI (10000 + 100 * tt_x op sp m + 7 * r + i) - 1 = nI (10000 + 100 * tt_x op sp m + (p - 1)) from pk_sub (a := 10000 + 100 * tt_x op sp m + 7 * r + i) (b := 1) (by omega) |>.trans (congrArg nI (by omega)), pk_sub (by omega), ef]
          exact congrArg nI (by omega)
        refine ⟨by rw [fm]; exact vp_in_nI (by omega) (by decide), nm_r f6 ⟨by rw [e1, f1]; exact vp_in_nI (by omega) (by decide), vp_in_nI (by omega) (by decide), nm_r (tc_upc (by omega) f7) (nm_r (nI_1 _) ?_)⟩⟩
        have S2 : wt_S (upd b_tasks l.length (nI (10000 + 100 * (m - 1) + (p - 1)))) ((m - 1, 4 + (p - 1)) :: l) := wt_S_push S (by
          unfold wt_t
          rw [if_neg (show ¬ (m - 1, 4 + (p - 1)).2 < 4 by show ¬ 4 + (p - 1) < 4; omega)]
          show _ = nI (10000 + 100 * (m - 1) + (4 + (p - 1) - 4))
          exact congrArg nI (by omega))
        refine K _ (wt_S_push S2 ?_)
        unfold wt_t
        rw [if_neg (show ¬ (tt_x op sp m, 4 + tc_fp c p).2 < 4 by show ¬ 4 + tc_fp c p < 4; omega)]
        show _ = nI (10000 + 100 * tt_x op sp m + (4 + tc_fp c p - 4))
        exact congrArg nI (by omega)
    · rw [if_pos h2] at K
      exact K b_tasks S
  · rw [show cv_sp c op sp m p = [(m, tc_mk c p - 10)] from if_neg (by omega)] at K
    have e4 : (100 : Int32) * nI m + nI (tc_mk c p) - 10 = nI (100 * m + (tc_mk c p - 10)) := by
      rw [show (100 : Int32) = nI 100 from rfl, pk_mul, nI_add]
      exact pk_sub (a := 100 * m + tc_mk c p) (b := 10) (by omega) |>.trans (congrArg nI (by omega))
    refine ⟨i4, nm_r (tc_upc (by omega) e4) ?_⟩
    rw [nI_1]
    refine K _ (wt_S_push S ?_)
    unfold wt_t
    rw [if_pos (show (m, tc_mk c p - 10).2 < 4 by show tc_mk c p - 10 < 4; omega)]
theorem cv_sp_len {m p : Nat} : (cv_sp c op sp m p).length ≤ 2 := by
  unfold cv_sp wk_pp
  split
  · split
    · exact Nat.zero_le _
    · split
      · show 1 ≤ 2; omega
      · show 2 ≤ 2; omega
  · show 1 ≤ 2; omega
theorem yv_38 (W : tc_wf c) (U : yw_U c b_marks b_sizes b_lefts b_costs b_lengths) (F : tt_F op sp tn) (Nd : yt_N op sp tn b_operators b_spans) (ht : top < tn) (Rs : ∀ m, m < tn → yw_R c b_least m (tt_A c op sp m)) {post : Int32 → SY → Prop} :
    cv_Y c op sp b0 top 300 (fun l o k => l.length ≤ k + 1 → o.length ≤ k → ∀ TK LI : Nat → Int32, wt_S TK l → ov_L LI o → ∀ f, 300 < f + k → wY_write_38 post f (nI l.length) g_noted g_depth (nI (tc_nr c)) g_planted g_trees g_stateCount g_known (nI o.length) b_marks b_sizes b_lefts b_costs b_lengths b_operators b_spans b_least b_ways TK LI) := by
  have h24 := F.1
  have h10 := W.1
  refine ⟨fun m i l o k r hk V he hr hP hl ho TK LI S O f hf => ?_, fun m i l o k hk V he hP hl ho TK LI S O f hf => ?_⟩
  all_goals
    obtain ⟨f, rfl⟩ : ∃ n, f = n + 1 := ⟨f - 1, by omega⟩
    obtain ⟨v1, v2, v3, v4⟩ := V
    obtain ⟨s1, s2⟩ := S
    have hl' : l.length + 1 ≤ k + 1 := hl
    have e1 : nI (((m, i) :: l).length) + (-1) = nI l.length := pk_m1 l.length
    have i7 : vp_in (nI l.length) 400 := vp_in_nI (by omega) (by decide)
    have c1 : TK (nI l.length).toNatClampNeg = nI (wt_t (m, i)) := by rw [nI_clamp (by omega)]; exact s1
    have hw : ¬ nI (((m, i) :: l).length) ≤ 0 := nI_nle (n := ((m, i) :: l).length) (Nat.succ_pos _) (by show l.length + 1 < 2 ^ 31; omega)
  · have hr0 := hr
    obtain ⟨r1, r2, r3⟩ := hr
    have w := W.2 r r1
    have w3 := w.2.2.1
    have w4 := w.2.2.2.1
    have et : wt_t (m, i) = 100 * m + i := if_pos he
    rw [et] at c1
    have d1 : nI (100 * m + i) / 100 = nI m := (pk_div (d := 100) (by omega) (by decide) (by decide)).trans (congrArg nI (by omega))
    have d2 : nI (100 * m + i) - nI m * 100 = nI i := by
      have := pk_rem (a := 100 * m + i) (d := 100) (by omega) (by decide) (by decide)
      rw [show nI (100 * m + i) / nI 100 = nI m from d1] at this
      exact this.trans (congrArg nI (by omega))
    have ei : ys_e c i = i := if_pos he
    rw [ei] at v4
    have e5 : b_lengths (nI r).toNatClampNeg - 1 = nI (tc_rn c r - 1) := by rw [nI_clamp (by omega), (U r r1).2.2.1]; exact pk_sub (a := tc_rn c r) (b := 1) w3
    have er : 7 * r + (tc_rn c r - 1) = wy_rt c r := by unfold wy_rt; omega
    have sl := cv_sp_len (c := c) (op := op) (sp := sp) (m := m) (p := wy_rt c r)
    have nx := hP (by rw [List.length_append]; omega) (by rw [List.length_append]; show o.length + 1 ≤ k + 1; omega)
    refine br_f hw (nm_r e1 ⟨i7, nm_r c1 (br_f (nI_ge (b := 10000) (by omega) (by decide)) ⟨by decide, by decide, ?_⟩)⟩)
    rw [d1, d2]
    refine ⟨r + 1, yv_first W U F (show m < tn by omega) he (Rs m (by omega)) hr0 ⟨vp_in_nI (by omega) (by decide), nm_r (tc_upc (by omega) rfl) (nm_r (nI_1 _) ⟨vp_in_nI (by omega) (by decide), by decide, ?_⟩)⟩ r 0 (by omega) (r + 1) (by omega)⟩
    rw [e5]
    refine yv_spr W U F Nd (show m < tn by omega) r1 (show tc_rn c r - 1 < tc_rn c r by omega) (fun z => ?_) (by omega) s2 (fun TK' S' => ?_)
    · rw [er] at z ⊢
      exact (wy_fin W F (show m < tn by omega) ⟨tc_us_rt W r1, z⟩ r2.2.1).1
    · rw [er] at S' ⊢
      have q := nx TK' (upd LI o.length (nI r)) S' (ov_L_push O) f (by omega)
      rw [List.length_append (bs := [r])] at q
      exact q
  · have hi4 : ¬ i < 4 := by omega
    have u := (v1.resolve_left hi4).2
    obtain ⟨p, ep⟩ : ∃ p, i = 4 + p := ⟨i - 4, by omega⟩
    subst ep
    rw [show 4 + p - 4 = p by omega] at u hP
    rw [ys_e_4] at v4
    have hp := (tc_us_lt W u).2
    have et : wt_t (m, 4 + p) = 10000 + 100 * m + p := by
      unfold wt_t
      rw [if_neg (show ¬ (m, 4 + p).2 < 4 by show ¬ 4 + p < 4; omega)]
      show 10000 + 100 * m + (4 + p - 4) = _
      omega
    rw [et] at c1
    have d1 : nI (10000 + 100 * m + p) / 100 = nI (100 + m) := (pk_div (d := 100) (by omega) (by decide) (by decide)).trans (congrArg nI (by omega))
    have d2 : nI (10000 + 100 * m + p) - nI (10000 + 100 * m + p) / 100 * 100 = nI p := by
      have := pk_rem (a := 10000 + 100 * m + p) (d := 100) (by omega) (by decide) (by decide)
      exact this.trans (congrArg nI (by omega))
    have d3 : nI p / 7 = nI (p / 7) := pk_div (d := 7) (by omega) (by decide) (by decide)
    have d4 : nI p - nI (p / 7) * 7 = nI (p % 7) := by rw [← d3]; exact pk_rem (a := p) (d := 7) (by omega) (by decide) (by decide)
    have d5 : nI (100 + m) - 100 = nI m := pk_sub (a := 100 + m) (b := 100) (by omega) |>.trans (congrArg nI (by omega))
    have er : 7 * (p / 7) + p % 7 = p := by omega
    have sl := cv_sp_len (c := c) (op := op) (sp := sp) (m := m) (p := p)
    have nx := hP (by rw [List.length_append]; omega) (by omega)
    refine br_f hw (nm_r e1 ⟨i7, nm_r c1 (br_t (nI_le (a := 10000) (by omega) (by omega)) ⟨by decide, nm_r d2 ⟨by decide, by decide, by decide, ?_⟩⟩)⟩)
    rw [d1, d3, d4, d5]
    refine yv_spr W U F Nd (show m < tn by omega) u.1 u.2 (fun z => ?_) (by omega) s2 (fun TK' S' => ?_)
    · rw [er] at z ⊢
      exact (wy_fin W F (show m < tn by omega) ⟨u, z⟩ v4).1
    · rw [er] at S' ⊢
      exact nx TK' LI S' O f (by omega)
end
end
section
/-! used, uses -/
section
variable {f_drafted f_patternHeight f_rules f_nodes f_treeHeight f_isLaid f_entries f_stateCount f_isWhole f_tooMany f_trialLeast f_covered f_works f_fromStates f_whereFirst f_whereSecond : Int32} {a_draft a_patternBegin a_left a_ruleCost a_ruleSize a_rulePart a_operator a_firstPart a_secondPart a_stack a_treeBegin a_helperOperator a_helperFirst a_helperSecond a_chainFrom a_openParts a_stateCost a_leafState a_leafAdd a_oneState a_oneAdd a_twoState a_twoAdd a_trial a_nodeCost a_nodeWays a_cover a_workEntry a_workNode a_nodeState a_nodeBase : Nat → Int32} {g_noted g_depth g_rules g_planted g_trees g_stateCount g_known g_listed : Int32} {b_marks b_sizes b_lefts b_costs b_lengths b_operators b_spans b_least b_ways b_tasks b_list : Nat → Int32} {c : tc_C} {op sp rt : Nat → Nat} {tn : Nat}
theorem sw_x (W : tc_wf c) (R : xl_R c a_left a_ruleCost a_ruleSize a_rulePart) (H : xz_H c f_isLaid f_entries f_stateCount f_isWhole f_tooMany a_helperOperator a_helperFirst a_helperSecond a_chainFrom a_stateCost a_leafState a_leafAdd a_oneState a_oneAdd a_twoState a_twoAdd) (F : tt_F op sp tn) (h8 : tc_ht op tn ≤ 8) (O : tc_fo sp tn (tc_ht op tn) rt) (Nd : xn_N op sp tn a_operator a_firstPart a_secondPart) (S : sl_S op rt tn a_stack a_treeBegin) {post : Int32 → SX → Prop} {g h px py : Nat} {out : List Nat} (hg : g < 4) (eh : tc_ht op tn = h + 1)
    (hO : tt_A c op sp (rt h) g < 1000000 → px ≤ 120 ∧ out.length ≤ px ∧ cv_O c op sp (tc_bg rt h) (rt h) [(rt h, g)] [(rt h, g)] out px py)
    (K0 : 1000000 ≤ tt_A c op sp (rt h) g → ∀ (sc : Nat) (sv : Nat → Nat → Nat) (fw tm tl fs w1 w2 : Int32) (ho hf hs ch oq SC LS LA OS OA TS TA tr NC NS NB : Nat → Int32), xl_A c ho hf hs ch → xb_T c sc sv tm SC LS LA OS OA TS TA → xz_W c sc sv tm fw → ((f_isLaid = 0 ∧ fw = 0) ∨ (f_isLaid = 1 ∧ fw = f_isWhole)) → post 0 (f_drafted, f_patternHeight, nI (tc_nr c), nI tn, nI (tc_ht op tn), 1, nI (tc_N c), nI sc, fw, tm, tl, 0, f_works, fs, w1, w2, a_draft, a_patternBegin, a_left, a_ruleCost, a_ruleSize, a_rulePart, a_operator, a_firstPart, a_secondPart, a_stack, a_treeBegin, ho, hf, hs, ch, oq, SC, LS, LA, OS, OA, TS, TA, tr, NC, a_nodeWays, a_cover, a_workEntry, a_workNode, NS, NB))
    (K1 : tt_A c op sp (rt h) g < 1000000 → ∀ (sc : Nat) (sv : Nat → Nat → Nat) (fw tm tl fs w1 w2 : Int32) (ho hf hs ch oq SC LS LA OS OA TS TA tr NC NS NB : Nat → Int32) (wk : Int32) (WE WN CV : Nat → Int32), xl_A c ho hf hs ch → xb_T c sc sv tm SC LS LA OS OA TS TA → xz_W c sc sv tm fw → ((f_isLaid = 0 ∧ fw = 0) ∨ (f_isLaid = 1 ∧ fw = f_isWhole)) → ov_L CV out → post 1 (f_drafted, f_patternHeight, nI (tc_nr c), nI tn, nI (tc_ht op tn), 1, nI (tc_N c), nI sc, fw, tm, tl, nI out.length, wk, fs, w1, w2, a_draft, a_patternBegin, a_left, a_ruleCost, a_ruleSize, a_rulePart, a_operator, a_firstPart, a_secondPart, a_stack, a_treeBegin, ho, hf, hs, ch, oq, SC, LS, LA, OS, OA, TS, TA, tr, NC, a_nodeWays, CV, WE, WN, NS, NB)) :
    wpX_writeCover post (f_drafted, f_patternHeight, nI (tc_nr c), nI tn, nI (tc_ht op tn), f_isLaid, f_entries, f_stateCount, f_isWhole, f_tooMany, f_trialLeast, f_covered, f_works, f_fromStates, f_whereFirst, f_whereSecond, a_draft, a_patternBegin, a_left, a_ruleCost, a_ruleSize, a_rulePart, a_operator, a_firstPart, a_secondPart, a_stack, a_treeBegin, a_helperOperator, a_helperFirst, a_helperSecond, a_chainFrom, a_openParts, a_stateCost, a_leafState, a_leafAdd, a_oneState, a_oneAdd, a_twoState, a_twoAdd, a_trial, a_nodeCost, a_nodeWays, a_cover, a_workEntry, a_workNode, a_nodeState, a_nodeBase) (nI g) := by
  have h24 := F.1
  have hN := tc_N_le W
  have O' := O
  rw [eh] at O'
  obtain ⟨r1, r2, r3⟩ := rt_top O'
  have e1 : nI (tc_ht op tn) - 1 = nI h := by rw [eh, nI_pred]
  obtain ⟨q1, q2, q3⟩ := tt_rng F O (j := h) (by omega)
  have i8 : vp_in (nI (tc_ht op tn) - 1) 8 := by rw [e1]; exact vp_in_nI (by omega) (by decide)
  have es : a_stack (nI (tc_ht op tn) - 1).toNatClampNeg = nI (rt h) := by rw [e1, nI_clamp (by omega)]; exact (S h (by omega)).1
  have A9 := tt_A_le (c := c) F q1 g
  unfold wpX_writeCover
  refine sl_lab W R H F h8 O Nd S (pl := h) (by omega) e1 (fun sc sv fw tm tl fs w1 w2 ho hf hs ch oq SC LS LA OS OA TS TA tr NC NS NB A T' Wh Fw Cs Fr' => br_f (by decide) ⟨i8, ?_⟩)
  refine xs_cost (n := rt h) (e := g) (by omega) (by omega) es rfl (Cs (rt h) q2 (Nat.le_refl _) g (by omega)) (pk_lt (tt_A c op sp (rt h) g) 1000000 (fun z => ⟨i8, ?_⟩) (fun z => K0 z sc sv fw tm tl fs w1 w2 ho hf hs ch oq SC LS LA OS OA TS TA tr NC NS NB A T' Wh Fw))
  obtain ⟨o1, o2, o3⟩ := hO z
  refine xa_work (wk := 0) (by omega) ?_
  refine ⟨401, ?_⟩
  refine o3.1 400 _ (xv_66 W R A F Nd q1 q3 Cs (post := post)) [] [] 0 (by omega) (fun _ _ WE WN CV _ hCV f hfu => ?_) (Nat.le_refl _) (Nat.le_refl _) _ _ _ ⟨?_, ?_, trivial⟩ (fun j hj => absurd hj (Nat.not_lt_zero _)) 401 (by omega)
  · obtain ⟨f, rfl⟩ : ∃ m, f = m + 1 := ⟨f - 1, by omega⟩
    exact pk_le 400 (0 + px) (fun y => by omega) (fun y => br_t (by decide) (K1 z sc sv fw tm tl fs w1 w2 ho hf hs ch oq SC LS LA OS OA TS TA tr NC NS NB _ WE WN CV A T' Wh Fw hCV))
  · rw [show ys_e c g = g from if_pos hg]; exact pk_us
  · exact pk_us.trans es
theorem sw_y (W : tc_wf c) (U : yw_U c b_marks b_sizes b_lefts b_costs b_lengths) (F : tt_F op sp tn) (Nd : yt_N op sp tn b_operators b_spans) (h8 : tc_ht op tn ≤ 8) (O : tc_fo sp tn (tc_ht op tn) rt) {post : Int32 → SY → Prop} {g h px py : Nat} {out : List Nat} (hg : g < 4) (eh : tc_ht op tn = h + 1)
    (hO : tt_A c op sp (rt h) g < 1000000 → py ≤ 120 ∧ out.length ≤ px ∧ cv_O c op sp (tc_bg rt h) (rt h) [(rt h, g)] [(rt h, g)] out px py)
    (K0 : 1000000 ≤ tt_A c op sp (rt h) g → ∀ L : Nat → Int32, (∀ j, 74 * 24 ≤ j → L j = b_least j) → post 0 (g_noted, g_depth, nI (tc_nr c), nI tn, nI (tc_ht op tn), g_stateCount, g_known, g_listed, b_marks, b_sizes, b_lefts, b_costs, b_lengths, b_operators, b_spans, L, b_ways, b_tasks, b_list))
    (K1 : tt_A c op sp (rt h) g < 1000000 → ∀ L TK LI : Nat → Int32, (∀ j, 74 * 24 ≤ j → L j = b_least j) → ov_L LI out → post 1 (g_noted, g_depth, nI (tc_nr c), nI tn, nI (tc_ht op tn), g_stateCount, g_known, nI out.length, b_marks, b_sizes, b_lefts, b_costs, b_lengths, b_operators, b_spans, L, b_ways, TK, LI)) :
    wpY_write post (g_noted, g_depth, nI (tc_nr c), nI tn, nI (tc_ht op tn), g_stateCount, g_known, g_listed, b_marks, b_sizes, b_lefts, b_costs, b_lengths, b_operators, b_spans, b_least, b_ways, b_tasks, b_list) (nI g) := by
  have h24 := F.1
  have O' := O
  rw [eh] at O'
  obtain ⟨r1, r2, r3⟩ := rt_top O'
  obtain ⟨q1, q2, q3⟩ := tt_rng F O (j := h) (by omega)
  have er : tn - 1 = rt h := by omega
  have A9 := tt_A_le (c := c) F q1 g
  unfold wpY_write
  refine yt_top W U F Nd h8 hg (fun _ => by omega) (fun z => by omega) (fun _ L Rs Fr => ?_)
  rw [er]
  refine pk_lt (tt_A c op sp (rt h) g) 1000000 (fun z => ?_) (fun z => K0 z L Fr)
  obtain ⟨o1, o2, o3⟩ := hO z
  have e1 : nI tn - 1 = nI (rt h) := by rw [← r1, nI_pred]
  have e2 : (100 : Int32) * nI (rt h) + nI g = nI (100 * rt h + g) := by rw [show (100 : Int32) = nI 100 from rfl, pk_mul, nI_add]
  refine nm_r e1 (nm_r (e' := upd b_tasks 0 (nI (100 * rt h + g))) (by rw [e2]) ⟨301, ?_⟩)
  refine o3.2 300 _ (yv_38 W U F Nd q1 Rs (post := post)) [] [] 0 (by omega) (fun _ _ TK LI _ hLI f hf => ?_) (Nat.le_refl _) (Nat.le_refl _) _ _ ⟨?_, trivial⟩ (fun j hj => absurd hj (Nat.not_lt_zero _)) 301 (by omega)
  · obtain ⟨f, rfl⟩ : ∃ m, f = m + 1 := ⟨f - 1, by omega⟩
    exact br_t (by decide) (K1 z L TK LI Fr hLI)
  · rw [show wt_t (rt h, g) = 100 * rt h + g from if_pos hg]; exact pk_us
/-- the outcome, once for both -/
theorem sw_out (W : tc_wf c) (F : tt_F op sp tn) {h g : Nat} (hj : h < tc_ht op tn) (O : tc_fo sp tn (tc_ht op tn) rt) (hg : g < 4) : ∃ out px py, tt_A c op sp (rt h) g < 1000000 → px ≤ 120 ∧ py ≤ 120 ∧ out.length ≤ px ∧ cv_O c op sp (tc_bg rt h) (rt h) [(rt h, g)] [(rt h, g)] out px py := by
  have h24 := F.1
  obtain ⟨q1, q2, q3⟩ := tt_rng F O hj
  by_cases z : tt_A c op sp (rt h) g < 1000000
  · obtain ⟨out, px, py, a1, a2, a3, a4⟩ := cv_main W F q1 q3 (rt h) g ⟨Or.inl hg, q2, Nat.le_refl _, by rw [show ys_e c g = g from if_pos hg]; exact z⟩
    have := (tt_loc F q1).2.2.1
    exact ⟨out, px, py, fun _ => ⟨by omega, by omega, a3, a4⟩⟩
  · exact ⟨[], 0, 0, fun y => absurd y z⟩
/-- no trees -/
theorem sw_x0 {post : Int32 → SX → Prop} {p0 : Int32} (ht : f_treeHeight = 0) (K : post 0 (f_drafted, f_patternHeight, f_rules, f_nodes, f_treeHeight, f_isLaid, f_entries, f_stateCount, f_isWhole, f_tooMany, f_trialLeast, 0, f_works, f_fromStates, f_whereFirst, f_whereSecond, a_draft, a_patternBegin, a_left, a_ruleCost, a_ruleSize, a_rulePart, a_operator, a_firstPart, a_secondPart, a_stack, a_treeBegin, a_helperOperator, a_helperFirst, a_helperSecond, a_chainFrom, a_openParts, a_stateCost, a_leafState, a_leafAdd, a_oneState, a_oneAdd, a_twoState, a_twoAdd, a_trial, a_nodeCost, a_nodeWays, a_cover, a_workEntry, a_workNode, a_nodeState, a_nodeBase)) : wpX_writeCover post (f_drafted, f_patternHeight, f_rules, f_nodes, f_treeHeight, f_isLaid, f_entries, f_stateCount, f_isWhole, f_tooMany, f_trialLeast, f_covered, f_works, f_fromStates, f_whereFirst, f_whereSecond, a_draft, a_patternBegin, a_left, a_ruleCost, a_ruleSize, a_rulePart, a_operator, a_firstPart, a_secondPart, a_stack, a_treeBegin, a_helperOperator, a_helperFirst, a_helperSecond, a_chainFrom, a_openParts, a_stateCost, a_leafState, a_leafAdd, a_oneState, a_oneAdd, a_twoState, a_twoAdd, a_trial, a_nodeCost, a_nodeWays, a_cover, a_workEntry, a_workNode, a_nodeState, a_nodeBase) p0 := by
  unfold wpX_writeCover
  refine sl_neg (by rw [ht]; decide) ?_
  exact br_t rfl K
theorem sw_y0 (W : tc_wf c) (U : yw_U c b_marks b_sizes b_lefts b_costs b_lengths) (F : tt_F op sp tn) (Nd : yt_N op sp tn b_operators b_spans) {post : Int32 → SY → Prop} {g : Nat} (hg : g < 4) (ht : tc_ht op tn = 0)
    (K : ∀ L : Nat → Int32, (∀ j, 74 * 24 ≤ j → L j = b_least j) → post 0 (g_noted, g_depth, nI (tc_nr c), nI tn, nI (tc_ht op tn), g_stateCount, g_known, g_listed, b_marks, b_sizes, b_lefts, b_costs, b_lengths, b_operators, b_spans, L, b_ways, b_tasks, b_list)) : wpY_write post (g_noted, g_depth, nI (tc_nr c), nI tn, nI (tc_ht op tn), g_stateCount, g_known, g_listed, b_marks, b_sizes, b_lefts, b_costs, b_lengths, b_operators, b_spans, b_least, b_ways, b_tasks, b_list) (nI g) := by
  unfold wpY_write
  refine yt_top W U F Nd (by omega) hg (fun h => by omega) (fun _ L Rs Fr => ?_) (fun h => by omega)
  exact br_f (by decide) (K L Fr)
end
theorem i_vc_uses {k : Nat} {u : SX} {v : SY} (I : i_Rel k u v) (hk : k + 3 ≤ 1536) (v1 : Int32) : wpX_uses (fun r u' => wpY_uses (fun r' v' => r' = r ∧ i_Rel (k + 3) u' v') v v1) u v1 := by
  refine rl_el (P := fun u v => wpX_uses (fun r u' => wpY_uses (fun r' v' => r' = r ∧ i_Rel (k + 3) u' v') v v1) u v1) I ?_
  intro f_drafted f_patternHeight f_rules f_nodes f_treeHeight f_isLaid f_entries f_stateCount f_isWhole f_tooMany f_trialLeast f_covered f_works f_fromStates f_whereFirst f_whereSecond a_draft a_patternBegin a_left a_ruleCost a_ruleSize a_rulePart a_operator a_firstPart a_secondPart a_stack a_treeBegin a_helperOperator a_helperFirst a_helperSecond a_chainFrom a_openParts a_stateCost a_leafState a_leafAdd a_oneState a_oneAdd a_twoState a_twoAdd a_trial a_nodeCost a_nodeWays a_cover a_workEntry a_workNode a_nodeState a_nodeBase g_noted g_depth g_rules g_planted g_trees g_stateCount g_known g_listed b_marks b_sizes b_lefts b_costs b_lengths b_operators b_spans b_least b_ways b_tasks b_list c op sp rt tn D C T H K V
  rcases pk_ix v1 (n := 4) (by decide) with h | h | ⟨g, hg, rfl⟩
  · exact br_t h (br_f (by decide) (br_t h ⟨rfl, rl_in D C T H K V⟩))
  · obtain ⟨h1, h2, h3, -⟩ := sm_4 h
    exact br_f h1 (br_f h2 (br_f (by decide) (br_f h1 (br_f h3 ⟨rfl, rl_in D C T H K V⟩))))
  · obtain ⟨rfl, rfl, c3, c4, c5⟩ := C
    have T0 := T
    obtain ⟨rfl, rfl, rfl, rfl, t5, t6, t7, t8, t9, t10⟩ := T
    have n0 : ¬ nI g < 0 := nI_pos (by omega)
    have n4 : nI g < 4 := nI_lt (b := 4) (by omega) (by decide)
    have n3 : nI g ≤ 3 := nI_le (b := 3) (by omega) (by decide)
    refine br_f n0 (br_t n4 (br_t rfl ?_))
    by_cases z : tc_ht op tn = 0
    · refine sw_x0 (by rw [z]; rfl) (br_t rfl (br_f n0 (br_t n3 (sw_y0 c3 c5 t5 t9 hg z (fun L Fr => br_t rfl ⟨rfl, ?_⟩)))))
      exact rl_in D ⟨rfl, rfl, c3, c4, c5⟩ T0 H (rl_K_fr c3 K Fr) V
    · obtain ⟨h, eh⟩ : ∃ h, tc_ht op tn = h + 1 := ⟨tc_ht op tn - 1, by omega⟩
      obtain ⟨out, px, py, hO⟩ := sw_out (c := c) c3 t5 (h := h) (by omega) t7 hg
      refine sw_x c3 c4 H t5 t6 t7 t8 t10 (px := px) (py := py) (out := out) hg eh (fun q => ⟨(hO q).1, (hO q).2.2.1, (hO q).2.2.2⟩) (fun q sc sv fw tm tl fs w1 w2 ho hf hs ch oq SC LS LA OS OA TS TA tr NC NS NB A T' Wh Fw => br_t rfl ?_) (fun q sc sv fw tm tl fs w1 w2 ho hf hs ch oq SC LS LA OS OA TS TA tr NC NS NB wk WE WN CV A T' Wh Fw hC => br_f (by decide) ?_)
      · refine br_f n0 (br_t n3 (sw_y c3 c5 t5 t9 t6 t7 (px := px) (py := py) (out := out) hg eh (fun q => ⟨(hO q).2.1, (hO q).2.2.1, (hO q).2.2.2⟩) (fun _ L Fr => br_t rfl ⟨rfl, ?_⟩) (fun q' => by omega)))
        exact rl_in D ⟨rfl, rfl, c3, c4, c5⟩ T0 (sf_H A T' Wh) (rl_K_fr c3 K Fr) (rl_W_lay V Fw)
      · refine br_f n0 (br_t n3 (sw_y c3 c5 t5 t9 t6 t7 (px := px) (py := py) (out := out) hg eh (fun q => ⟨(hO q).2.1, (hO q).2.2.1, (hO q).2.2.2⟩) (fun q' => by omega) (fun _ L TK LI Fr hL => br_f (by decide) ⟨rfl, ?_⟩)))
        exact rl_in D ⟨rfl, rfl, c3, c4, c5⟩ T0 (sf_H A T' Wh) (rl_K_fr c3 K Fr) (rl_W_lay V Fw)
theorem i_vc_used {k : Nat} {u : SX} {v : SY} (I : i_Rel k u v) (hk : k + 3 ≤ 1536) (v1 : Int32) (v2 : Int32) : wpX_used (fun r u' => wpY_used (fun r' v' => r' = r ∧ i_Rel (k + 3) u' v') v v1 v2) u v1 v2 := by
  refine rl_el (P := fun u v => wpX_used (fun r u' => wpY_used (fun r' v' => r' = r ∧ i_Rel (k + 3) u' v') v v1 v2) u v1 v2) I ?_
  intro f_drafted f_patternHeight f_rules f_nodes f_treeHeight f_isLaid f_entries f_stateCount f_isWhole f_tooMany f_trialLeast f_covered f_works f_fromStates f_whereFirst f_whereSecond a_draft a_patternBegin a_left a_ruleCost a_ruleSize a_rulePart a_operator a_firstPart a_secondPart a_stack a_treeBegin a_helperOperator a_helperFirst a_helperSecond a_chainFrom a_openParts a_stateCost a_leafState a_leafAdd a_oneState a_oneAdd a_twoState a_twoAdd a_trial a_nodeCost a_nodeWays a_cover a_workEntry a_workNode a_nodeState a_nodeBase g_noted g_depth g_rules g_planted g_trees g_stateCount g_known g_listed b_marks b_sizes b_lefts b_costs b_lengths b_operators b_spans b_least b_ways b_tasks b_list c op sp rt tn D C T H K V
  rcases pk_ix v1 (n := 4) (by decide) with h | h | ⟨g, hg, rfl⟩
  · exact br_t h (br_f (by decide) (br_t h ⟨rfl, rl_in D C T H K V⟩))
  · obtain ⟨h1, h2, h3, -⟩ := sm_4 h
    exact br_f h1 (br_f h2 (br_f (by decide) (br_f h1 (br_f h3 ⟨rfl, rl_in D C T H K V⟩))))
  · obtain ⟨rfl, rfl, c3, c4, c5⟩ := C
    have T0 := T
    obtain ⟨rfl, rfl, rfl, rfl, t5, t6, t7, t8, t9, t10⟩ := T
    have n0 : ¬ nI g < 0 := nI_pos (by omega)
    have n4 : nI g < 4 := nI_lt (b := 4) (by omega) (by decide)
    have n3 : nI g ≤ 3 := nI_le (b := 3) (by omega) (by decide)
    refine br_f n0 (br_t n4 (br_t rfl ?_))
    by_cases z : tc_ht op tn = 0
    · refine sw_x0 (by rw [z]; rfl) (br_t rfl (br_f n0 (br_t n3 (sw_y0 c3 c5 t5 t9 hg z (fun L Fr => br_t rfl ⟨rfl, ?_⟩)))))
      exact rl_in D ⟨rfl, rfl, c3, c4, c5⟩ T0 H (rl_K_fr c3 K Fr) V
    · obtain ⟨h, eh⟩ : ∃ h, tc_ht op tn = h + 1 := ⟨tc_ht op tn - 1, by omega⟩
      obtain ⟨out, px, py, hO⟩ := sw_out (c := c) c3 t5 (h := h) (by omega) t7 hg
      refine sw_x c3 c4 H t5 t6 t7 t8 t10 (px := px) (py := py) (out := out) hg eh (fun q => ⟨(hO q).1, (hO q).2.2.1, (hO q).2.2.2⟩) (fun q sc sv fw tm tl fs w1 w2 ho hf hs ch oq SC LS LA OS OA TS TA tr NC NS NB A T' Wh Fw => br_t rfl ?_) (fun q sc sv fw tm tl fs w1 w2 ho hf hs ch oq SC LS LA OS OA TS TA tr NC NS NB wk WE WN CV A T' Wh Fw hC => br_f (by decide) ?_)
      · refine br_f n0 (br_t n3 (sw_y c3 c5 t5 t9 t6 t7 (px := px) (py := py) (out := out) hg eh (fun q => ⟨(hO q).2.1, (hO q).2.2.1, (hO q).2.2.2⟩) (fun _ L Fr => br_t rfl ⟨rfl, ?_⟩) (fun q' => by omega)))
        exact rl_in D ⟨rfl, rfl, c3, c4, c5⟩ T0 (sf_H A T' Wh) (rl_K_fr c3 K Fr) (rl_W_lay V Fw)
      · obtain ⟨o1, o2, o3, o4⟩ := hO q
        have Y : ∀ r : Int32, (∀ L TK LI : Nat → Int32, (∀ j, 74 * 24 ≤ j → L j = b_least j) → ov_L LI out → (v2 < 0 → -4 = r) ∧ (¬ v2 < 0 → (nI out.length ≤ v2 → -4 = r) ∧ (¬ nI out.length ≤ v2 → vp_in v2 400 ∧ LI v2.toNatClampNeg = r))) → wpY_used (fun r' v' => r' = r ∧ i_Rel (k + 3) (f_drafted, f_patternHeight, nI (tc_nr c), nI tn, nI (tc_ht op tn), 1, nI (tc_N c), nI sc, fw, tm, tl, nI out.length, wk, fs, w1, w2, a_draft, a_patternBegin, a_left, a_ruleCost, a_ruleSize, a_rulePart, a_operator, a_firstPart, a_secondPart, a_stack, a_treeBegin, ho, hf, hs, ch, oq, SC, LS, LA, OS, OA, TS, TA, tr, NC, a_nodeWays, CV, WE, WN, NS, NB) v') (g_noted, g_depth, nI (tc_nr c), nI tn, nI (tc_ht op tn), g_stateCount, g_known, g_listed, b_marks, b_sizes, b_lefts, b_costs, b_lengths, b_operators, b_spans, b_least, b_ways, b_tasks, b_list) (nI g) v2 := by
          intro r hr
          refine br_f n0 (br_t n3 (sw_y c3 c5 t5 t9 t6 t7 (px := px) (py := py) (out := out) hg eh (fun q => ⟨(hO q).2.1, (hO q).2.2.1, (hO q).2.2.2⟩) (fun q' => by omega) (fun _ L TK LI Fr hL => br_f (by decide) ?_)))
          have rel : i_Rel (k + 3) (f_drafted, f_patternHeight, nI (tc_nr c), nI tn, nI (tc_ht op tn), 1, nI (tc_N c), nI sc, fw, tm, tl, nI out.length, wk, fs, w1, w2, a_draft, a_patternBegin, a_left, a_ruleCost, a_ruleSize, a_rulePart, a_operator, a_firstPart, a_secondPart, a_stack, a_treeBegin, ho, hf, hs, ch, oq, SC, LS, LA, OS, OA, TS, TA, tr, NC, a_nodeWays, CV, WE, WN, NS, NB) (g_noted, g_depth, nI (tc_nr c), nI tn, nI (tc_ht op tn), g_stateCount, g_known, nI out.length, b_marks, b_sizes, b_lefts, b_costs, b_lengths, b_operators, b_spans, L, b_ways, TK, LI) := rl_in D ⟨rfl, rfl, c3, c4, c5⟩ T0 (sf_H A T' Wh) (rl_K_fr c3 K Fr) (rl_W_lay V Fw)
          obtain ⟨y1, y2⟩ := hr L TK LI Fr hL
          exact br_c (fun w => ⟨y1 w, rel⟩) (fun w => br_c (fun w' => ⟨(y2 w).1 w', rel⟩) (fun w' => ⟨((y2 w).2 w').1, ((y2 w).2 w').2, rel⟩))
        refine br_c (fun w => Y _ (fun L TK LI _ _ => ⟨fun _ => rfl, fun w' => absurd w w'⟩)) (fun w => ?_)
        obtain ⟨j, hj, rfl⟩ := nI_of w
        refine pk_le out.length j (fun y => Y _ (fun L TK LI _ _ => ⟨fun w' => absurd w' w, fun _ => ⟨fun _ => rfl, fun y' => absurd (nI_le y hj) y'⟩⟩)) (fun y => ⟨vp_in_nI (by omega) (by decide), Y _ (fun L TK LI _ hL => ⟨fun w' => absurd w' w, fun _ => ⟨fun y' => absurd y' (nI_ge y (by omega)), fun _ => ⟨vp_in_nI (by omega) (by decide), ?_⟩⟩⟩)⟩)
        rw [nI_clamp hj, hL j y, hC j y]
end
