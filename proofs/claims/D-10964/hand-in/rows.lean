section
/-- digit b of cube c -/
def qm_dg (c b : Nat) : Nat := c / 3 ^ (3 - b) % 3
/-- whether the last k digits of cube c ask for row r -/
def qm_ask (c r : Nat) : Nat → Bool
  | 0 => true
  | k + 1 => (qm_dg c (3 - k) == 2 || qm_dg c (3 - k) == r / 2 ^ k % 2) && qm_ask c r k
/-- the word of cube c, its rows below i -/
def qm_wp (c : Nat) : Nat → Int32
  | 0 => 0
  | i + 1 => if qm_ask c i 4 = true then qm_wp c i ||| ((1 : Int32) <<< (nI i &&& 31)) else qm_wp c i
def qm_w (c : Nat) : Int32 := qm_wp c 16
/-- how many of the first i digits of cube c are 2 -/
def qm_fb (c : Nat) : Nat → Nat
  | 0 => 0
  | i + 1 => qm_fb c i + (if qm_dg c i = 2 then 1 else 0)
/-- how many of the low i bits of w are set -/
def qm_on (w : Int32) : Nat → Int32
  | 0 => 0
  | i + 1 => qm_on w i + ((w >>> (nI i &&& 31)) &&& 1)
/-- the row of a cube without a digit 2; the cube of a row -/
def qm_or (c : Nat) : Nat := 8 * qm_dg c 0 + 4 * qm_dg c 1 + 2 * qm_dg c 2 + qm_dg c 3
def qm_K (r : Nat) : Nat := 27 * (r / 8 % 2) + 9 * (r / 4 % 2) + 3 * (r / 2 % 2) + r % 2
/-- the share of a digit in a cube's size -/
def qm_s (d : Nat) : Nat := if d = 2 then 2 else 1
def qm_sz (c : Nat) : Nat := qm_s (qm_dg c 0) * qm_s (qm_dg c 1) * qm_s (qm_dg c 2) * qm_s (qm_dg c 3)
theorem qm_dg3 (c b : Nat) : qm_dg c b < 3 := Nat.mod_lt _ (by decide)
theorem qm_fbl (c : Nat) : ∀ i, qm_fb c i ≤ i
  | 0 => Nat.le_refl 0
  | i + 1 => by
    have h := qm_fbl c i
    unfold qm_fb
    split <;> omega
theorem qm_pl : ∀ k, k < 4 → 3 ^ k < 81 ∧ 0 < 3 ^ k := by decide +kernel
theorem qm_bit : ∀ r, r < 16 → ∀ k, k < 4 → (nI r >>> (((3 : Int32) - nI (3 - k)) &&& 31)) &&& 1 = nI (r / 2 ^ k % 2) := by decide +kernel
theorem qm_t2 : ∀ c, c < 81 → ∀ i, i < 4 → qm_dg c i = 2 → 2 * 3 ^ (3 - i) ≤ c := by decide +kernel
theorem qm_t1 : ∀ c, c < 81 → qm_fb c 4 = 0 → qm_or c < 16 ∧ qm_K (qm_or c) = c ∧ (qm_or c = 15 ∨ ¬ (qm_w c >>> (nI (qm_or c) &&& 31)) &&& 1 = 0) ∧ ∀ j, j < qm_or c → (qm_w c >>> (nI j &&& 31)) &&& 1 = 0 := by decide +kernel
theorem qm_tK : ∀ r, r < 16 → qm_K r < 81 ∧ qm_or (qm_K r) = r ∧ qm_fb (qm_K r) 4 = 0 := by decide +kernel
theorem qm_tN : ∀ r, r < 16 → (((27 * ((nI r >>> ((3 : Int32) &&& 31)) &&& 1)) + (9 * ((nI r >>> ((2 : Int32) &&& 31)) &&& 1))) + (3 * ((nI r >>> ((1 : Int32) &&& 31)) &&& 1))) + (nI r &&& 1) = nI (qm_K r) := by decide +kernel
theorem qm_tS : ∀ c, c < 81 → qm_on (qm_w c) 20 = nI (qm_sz c) ∧ qm_sz c ≤ 16 ∧ (qm_sz c = 1 ↔ qm_fb c 4 = 0) ∧ qm_or c < 31 := by decide +kernel
theorem qm_tX : ∀ k, k < 4 → ∀ i, i < 16 → (nI i ^^^ ((8 : Int32) >>> (nI k &&& 31))) = nI (i ^^^ (8 / 2 ^ k)) ∧ i ^^^ (8 / 2 ^ k) < 16 ∧ i ^^^ (8 / 2 ^ k) ≠ i := by decide +kernel
theorem qm_tD : ∀ c, c < 81 → nI c / 27 = nI (qm_dg c 0) ∧ nI c / 9 - nI c / 9 / 3 * 3 = nI (qm_dg c 1) ∧ nI c / 3 - nI c / 3 / 3 * 3 = nI (qm_dg c 2) ∧ nI c - nI c / 3 * 3 = nI (qm_dg c 3) := by decide +kernel
theorem qm_int (x : Int32) : x < 0 ∨ ∃ j : Nat, j < 2 ^ 31 ∧ x = nI j := by
  by_cases h : x < 0
  · exact Or.inl h
  · exact Or.inr (nI_of h)
end
section
theorem qm_power {post : Int32 → Prop} (k : Nat) (hk : k < 4) (h : post (nI (3 ^ k))) : wpX_power post () (nI k) :=
  pk_loop (σ := Unit) (fun n i _ => wX_power_4 post (nI k) n (nI (3 ^ i)) (nI i)) (fun _ _ => True) k 0 () (by omega) trivial
    (fun n _ _ => pk_le k k (fun _ => h) (fun z => absurd z (by omega)))
    (fun n i _ hi _ hw => pk_le k i (fun z => absurd z (by omega)) (fun _ => nm_r (e' := nI (3 ^ (i + 1))) (pk_mul (3 ^ i) 3) (nm_r (nI_1 i) (hw () trivial))))
theorem qm_powerS {post : Int32 → Prop} (i : Nat) (hi : i < 4) (h : post (nI (3 ^ (3 - i)))) : wpX_power post () (3 - nI i) := by
  have e : (3 : Int32) - nI i = nI (3 - i) := pk_sub (a := 3) (b := i) (by omega)
  rw [e]
  exact qm_power (3 - i) (by omega) h
theorem qm_dgt {post : Int32 → Prop} (c b : Nat) (hc : c < 81) (hb : b < 4) (h : post (nI (qm_dg c b))) : wpX_digit post () (nI c) (nI b) := by
  have p := qm_pl (3 - b) (by omega)
  have e : (nI c / nI (3 ^ (3 - b))) - (nI c / nI (3 ^ (3 - b))) / 3 * 3 = nI (qm_dg c b) := by
    rw [pk_div (by omega) p.2 (by omega)]
    exact pk_rem (a := c / 3 ^ (3 - b)) (d := 3) (Nat.lt_of_le_of_lt (Nat.div_le_self _ _) (by omega)) (by decide) (by decide)
  unfold wpX_digit
  refine qm_powerS b hb ⟨nI_ne0 p.2 (by omega), by decide, ?_⟩
  rw [e]
  exact h
theorem qm_free {post : Int32 → Prop} (c : Nat) (hc : c < 81) (h : post (nI (qm_fb c 4))) : wpX_freeBits post () (nI c) :=
  pk_loop (σ := Unit) (fun n i _ => wX_freeBits_4 post (nI c) n (nI (qm_fb c i)) (nI i)) (fun _ _ => True) 4 0 () (by omega) trivial
    (fun n _ _ => pk_le 4 4 (fun _ => h) (fun z => absurd z (by omega)))
    (fun n i _ hi _ hw => pk_le 4 i (fun z => absurd z (by omega)) (fun _ => qm_dgt c i hc hi (by
      have d := qm_dg3 c i
      refine pk_eq (qm_dg c i) 2 (fun z => nm_r (e' := nI (qm_fb c (i + 1))) ?_ (nm_r (nI_1 i) (hw () trivial))) (fun z => nm_r (e' := nI (qm_fb c (i + 1))) ?_ (nm_r (nI_1 i) (hw () trivial)))
      · rw [nI_1]
        show _ = nI (qm_fb c i + _)
        rw [if_pos z]
      · show _ = nI (qm_fb c i + _)
        rw [if_neg z]
        exact nI_add (qm_fb c i) 0)))
theorem qm_ones {post : Int32 → Prop} (w : Int32) (h : post (qm_on w 20)) : wpX_ones post () w :=
  pk_loop (σ := Unit) (fun n i _ => wX_ones_4 post w n (qm_on w i) (nI i)) (fun _ _ => True) 20 0 () (by omega) trivial
    (fun n _ _ => pk_le 20 20 (fun _ => h) (fun z => absurd z (by omega)))
    (fun n i _ hi _ hw => pk_le 20 i (fun z => absurd z (by omega)) (fun _ => nm_r (e' := qm_on w (i + 1)) rfl (nm_r (nI_1 i) (hw () trivial))))
theorem qm_asksF {post : Int32 → Prop} (c r : Nat) (hc : c < 81) (hr : r < 16) : ∀ k, k ≤ 4 → post (if qm_ask c r k = true then 1 else 0) → ∀ n, k < n → wX_asksFor_2 post (nI c) (nI r) n (nI (4 - k)) := by
  intro k
  induction k with
  | zero =>
    intro _ h n hn
    obtain ⟨m, rfl⟩ : ∃ m, n = m + 1 := ⟨n - 1, by omega⟩
    exact pk_le 4 4 (fun _ => h) (fun z => absurd z (by omega))
  | succ k ih =>
    intro hk h n hn
    obtain ⟨m, rfl⟩ : ∃ m, n = m + 1 := ⟨n - 1, by omega⟩
    have e1 : 4 - (k + 1) = 3 - k := by omega
    have e2 : nI (3 - k) + 1 = nI (4 - k) := by rw [nI_1, show 3 - k + 1 = 4 - k by omega]
    have b := qm_bit r hr k (by omega)
    have d := qm_dg3 c (3 - k)
    have d2 : r / 2 ^ k % 2 < 2 := Nat.mod_lt _ (by decide)
    rw [e1]
    refine pk_le 4 (3 - k) (fun z => absurd z (by omega)) (fun _ => qm_dgt c (3 - k) hc (by omega) ?_)
    refine pk_eq (qm_dg c (3 - k)) 2 (fun z => nm_r e2 (ih (by omega) ?_ m (by omega))) (fun z => ?_)
    · have g : qm_ask c r (k + 1) = qm_ask c r k := by
        show ((qm_dg c (3 - k) == 2 || qm_dg c (3 - k) == r / 2 ^ k % 2) && qm_ask c r k) = _
        rw [z]
        rfl
      rw [g] at h
      exact h
    · refine pk_eq (qm_dg c (3 - k)) (r / 2 ^ k % 2) (fun z2 => nm_r e2 (ih (by omega) ?_ m (by omega))) (fun z2 => ?_) rfl b
      · have g : qm_ask c r (k + 1) = qm_ask c r k := by
          show ((qm_dg c (3 - k) == 2 || qm_dg c (3 - k) == r / 2 ^ k % 2) && qm_ask c r k) = _
          rw [← z2]
          simp
        rw [g] at h
        exact h
      · have g : qm_ask c r (k + 1) = false := by
          show ((qm_dg c (3 - k) == 2 || qm_dg c (3 - k) == r / 2 ^ k % 2) && qm_ask c r k) = _
          rw [beq_false_of_ne z, beq_false_of_ne z2]
          rfl
        rw [g] at h
        exact h
theorem qm_asks {post : Int32 → Prop} (c r : Nat) (hc : c < 81) (hr : r < 16) (h : post (if qm_ask c r 4 = true then 1 else 0)) : wpX_asksFor post () (nI c) (nI r) :=
  ⟨5, qm_asksF c r hc hr 4 (by omega) h 5 (by omega)⟩
section
variable {f0 f1 f2 f3 f4 f5 : Int32} {a1 a2 a3 a4 a5 a6 a7 a8 : Nat → Int32}
theorem qm_i78 {post : St2 → Prop} {mc ms kc ks : Nat} {J : Int32 → (Nat → Int32) → (Nat → Int32) → (Nat → Int32) → (Nat → Int32) → (Nat → Int32) → (Nat → Int32) → (Nat → Int32) → (Nat → Int32) → Prop} {c : Nat} (hc : c < 81)
    (h1 : ∀ j, j < c → a2 j = qm_w j) (h2 : ∀ j, c ≤ j → a2 j = 0)
    (H : ∀ s : Nat → Int32, (∀ j, j < c + 1 → s j = qm_w j) → (∀ j, c + 1 ≤ j → s j = 0) → J (nI (c + 1)) a1 s a3 a4 a5 a6 a7 a8) :
    ∃ n, wX_init_78 post mc ms J (nI c) kc ks f0 f1 f2 f3 f4 f5 n 0 a1 a2 a3 a4 a5 a6 a7 a8 := by
  refine pk_loop (fun n i s => wX_init_78 post mc ms J (nI c) kc ks f0 f1 f2 f3 f4 f5 n (nI i) a1 s a3 a4 a5 a6 a7 a8) (fun i s => (∀ j, j < c → s j = qm_w j) ∧ s c = qm_wp c i ∧ ∀ j, c + 1 ≤ j → s j = 0) 16 0 a2 (by omega) ⟨h1, h2 c (by omega), fun j hj => h2 j (by omega)⟩ ?_ ?_
  · intro n s h
    refine pk_le 16 16 (fun _ => nm_r (nI_1 c) (H s (fun j hj => ?_) h.2.2)) (fun z => absurd z (by omega))
    by_cases e : j = c
    · rw [e]
      exact h.2.1
    · exact h.1 j (by omega)
  · intro n i s hi h hw
    refine pk_le 16 i (fun z => absurd z (by omega)) (fun _ => qm_asks c i hc hi ?_)
    by_cases g : qm_ask c i 4 = true
    · rw [if_pos g]
      refine br_f (by decide) ⟨pk_in c 81 hc, pk_in c 81 hc, ?_⟩
      rw [nI_clamp (show c < 2 ^ 31 by omega)]
      refine nm_e (nm_r (nI_1 i) (hw _ ⟨fun j hj => ?_, ?_, fun j hj => ?_⟩))
      · rw [pk_un (by omega)]
        exact h.1 j hj
      · rw [pk_us, h.2.1]
        show _ = (if qm_ask c i 4 = true then qm_wp c i ||| ((1 : Int32) <<< (nI i &&& 31)) else qm_wp c i)
        rw [if_pos g]
      · rw [pk_un (by omega)]
        exact h.2.2 j hj
    · rw [if_neg g]
      refine br_t rfl (nm_r (nI_1 i) (hw _ ⟨h.1, ?_, h.2.2⟩))
      rw [h.2.1]
      show _ = (if qm_ask c i 4 = true then qm_wp c i ||| ((1 : Int32) <<< (nI i &&& 31)) else qm_wp c i)
      rw [if_neg g]
theorem qm_init {post : St2 → Prop} {mc ms : Nat} (hm : 8 ≤ mc) (hs : 393 ≤ ms)
    (H : ∀ s : Nat → Int32, (∀ j, j < 81 → s j = qm_w j) → post (f0, f1, f2, f3, f4, f5, fun _ => 0, s, fun _ => 0, fun _ => 0, fun _ => 0, fun _ => 0, fun _ => 0, fun _ => 0)) :
    wpX_init post mc ms (f0, f1, f2, f3, f4, f5) := by
  refine ⟨by omega, by omega, by omega, by omega, by omega, by omega, by omega, by omega, by omega, by omega, by omega, by omega, by omega, by omega, by omega, by omega, ?_⟩
  refine pk_loop (fun n i s => wX_init_70 post mc ms 8 393 f0 f1 f2 f3 f4 f5 n (nI i) (fun _ => 0) s (fun _ => 0) (fun _ => 0) (fun _ => 0) (fun _ => 0) (fun _ => 0) (fun _ => 0)) (fun i s => (∀ j, j < i → s j = qm_w j) ∧ ∀ j, i ≤ j → s j = 0) 81 0 (fun _ => 0) (by omega) ⟨fun j hj => absurd hj (by omega), fun _ _ => rfl⟩ ?_ ?_
  · intro n s h
    exact pk_le 81 81 (fun _ => H s h.1) (fun z => absurd z (by omega))
  · intro n i s hi h hw
    exact pk_le 81 i (fun z => absurd z (by omega)) (fun _ => qm_i78 hi h.1 h.2 (fun s' g1 g2 => hw s' ⟨g1, g2⟩))
theorem qm_only {post : Int32 → Prop} {c : Nat} (hc : c < 81) (h2 : a2 c = qm_w c) (hf : qm_fb c 4 = 0) (h : post (nI (qm_or c))) : wpX_onlyRow post (f0, f1, f2, f3, f4, f5, a1, a2, a3, a4, a5, a6, a7, a8) (nI c) := by
  obtain ⟨t1, _, t3, t4⟩ := qm_t1 c hc hf
  have ec : (nI c).toNatClampNeg = c := nI_clamp (by omega)
  refine pk_loop (σ := Unit) (fun n i _ => wX_onlyRow_2 post (nI c) f0 f1 f2 f3 f4 f5 a1 a2 a3 a4 a5 a6 a7 a8 n (nI i)) (fun _ _ => True) (qm_or c) 0 () (by omega) trivial ?_ ?_
  · intro n _ _
    refine pk_le 15 (qm_or c) (fun _ => h) (fun z => ⟨pk_in c 81 hc, br_f ?_ h⟩)
    rw [ec, h2]
    exact t3.resolve_left (by omega)
  · intro n i _ hi _ hw
    refine pk_le 15 i (fun z => absurd z (by omega)) (fun z => ⟨pk_in c 81 hc, br_t ?_ (nm_r (nI_1 i) (hw () trivial))⟩)
    rw [ec, h2]
    exact t4 i hi
theorem qm_join {post : Int32 → St2 → Prop} {c : Nat} (hc : c < 81) (h3 : ∀ x y, x < 81 → y < 81 → x ≠ y → a3 x = 0 ∨ a3 y = 0) (h : post 0 (f0, f1, f2, f3, f4, f5, a1, a2, a3, a4, a5, a6, a7, a8)) : wpX_join post (f0, f1, f2, f3, f4, f5, a1, a2, a3, a4, a5, a6, a7, a8) (nI c) := by
  refine pk_loop (σ := Unit) (fun n i _ => wX_join_4 post (nI c) f0 f1 f2 f3 f4 f5 n 0 (nI i) a1 a2 a3 a4 a5 a6 a7 a8) (fun _ _ => True) 4 0 () (by omega) trivial ?_ ?_
  · intro n _ _
    exact pk_le 4 4 (fun _ => ⟨rfl, h⟩) (fun z => absurd z (by omega))
  · intro n i _ hi _ hw
    have d := qm_dg3 c i
    refine pk_le 4 i (fun z => absurd z (by omega)) (fun _ => qm_dgt c i hc hi ?_)
    refine pk_eq (qm_dg c i) 2 (fun z => ?_) (fun z => nm_r (nI_1 i) (hw () trivial))
    have t := qm_t2 c hc i hi z
    have p := qm_pl (3 - i) (by omega)
    have e1 : nI c - 2 * nI (3 ^ (3 - i)) = nI (c - 2 * 3 ^ (3 - i)) := by
      rw [← pk_sub t, ← pk_mul]
      rfl
    have e2 : nI c - nI (3 ^ (3 - i)) = nI (c - 3 ^ (3 - i)) := pk_sub (by omega)
    have c1 : (nI (c - 2 * 3 ^ (3 - i))).toNatClampNeg = c - 2 * 3 ^ (3 - i) := nI_clamp (by omega)
    have c2 : (nI (c - 3 ^ (3 - i))).toNatClampNeg = c - 3 ^ (3 - i) := nI_clamp (by omega)
    have q := h3 (c - 2 * 3 ^ (3 - i)) (c - 3 ^ (3 - i)) (by omega) (by omega) (by omega)
    have B : ∀ J x4 x5, wX_join_64 post J (nI c) (nI i) x4 x5 f0 f1 f2 f3 f4 f5 a1 a2 a3 a4 a5 a6 a7 a8 := fun J x4 x5 => br_t rfl h
    refine qm_powerS i hi (nm_r e1 (qm_powerS i hi (nm_r e2 ⟨pk_in (c - 2 * 3 ^ (3 - i)) 81 (by omega), br_c (fun _ => B _ _ _) (fun g => ⟨pk_in (c - 3 ^ (3 - i)) 81 (by omega), br_c (fun _ => B _ _ _) (fun g2 => ?_)⟩)⟩)))
    rw [c1] at g
    rw [c2] at g2
    exact absurd q (fun o => o.elim g g2)
end
end
section
/-- the rows: row R is held as H, all others are 0 -/
def qm_Rw (R H : Nat) (a1 : Nat → Int32) : Prop := ∀ j, j < 16 → a1 j = if j = R then nI H else 0
/-- allowed, in phase i with the cubes below c done -/
def qm_I (R H i c : Nat) (s : Nat → Int32) : Prop := ∀ j, j < 81 → s j = if (0 < i ∨ j < c) ∧ j = qm_K R ∧ H ≠ 0 then 1 else 0
/-- allowed, when all is done -/
def qm_Al (R H : Nat) (s : Nat → Int32) : Prop := ∀ j, j < 81 → s j = if j = qm_K R ∧ H ≠ 0 then 1 else 0
/-- count, allowed and list behind a refresh -/
def qm_Fr (R H : Nat) (cnt : Int32) (a3 a5 : Nat → Int32) : Prop := qm_Al R H a3 ∧ cnt = nI (if H ≠ 0 then 1 else 0) ∧ (H ≠ 0 → a5 0 = nI (qm_K R))
theorem qm_I_up {R H i c : Nat} {s : Nat → Int32} {v : Int32} (h : qm_I R H i c s) (hv : v = if c = qm_K R ∧ H ≠ 0 then 1 else 0) : qm_I R H i (c + 1) (upd s c v) := by
  intro j hj
  by_cases e : j = c
  · rw [e, pk_us, hv]
    by_cases g : c = qm_K R ∧ H ≠ 0
    · rw [if_pos g, if_pos ⟨Or.inr (Nat.lt_succ_self c), g⟩]
    · rw [if_neg g, if_neg (fun t => g t.2)]
  · rw [pk_un e, h j hj]
    by_cases g : (0 < i ∨ j < c) ∧ j = qm_K R ∧ H ≠ 0
    · rw [if_pos g, if_pos ⟨g.1.elim Or.inl (fun t => Or.inr (by omega)), g.2⟩]
    · rw [if_neg g, if_neg (fun t => g ⟨t.1.elim Or.inl (fun t => Or.inr (by omega)), t.2⟩)]
theorem qm_I_skip {R H i c : Nat} {s : Nat → Int32} (h : qm_I R H i c s) (hz : 0 < i ∨ c ≠ qm_K R) : qm_I R H i (c + 1) s := by
  intro j hj
  rw [h j hj]
  by_cases g : (0 < i ∨ j < c) ∧ j = qm_K R ∧ H ≠ 0
  · rw [if_pos g, if_pos ⟨g.1.elim Or.inl (fun t => Or.inr (by omega)), g.2⟩]
  · refine (if_neg g).trans (if_neg (fun t => g ⟨?_, t.2⟩)).symm
    rcases hz with z | z
    · exact Or.inl z
    · have q := t.2.1
      exact t.1.elim Or.inl (fun u => Or.inr (by omega))
theorem qm_I_end {R H i : Nat} {s : Nat → Int32} (h : qm_I R H i 81 s) : qm_I R H (i + 1) 0 s := by
  intro j hj
  rw [h j hj]
  by_cases g : j = qm_K R ∧ H ≠ 0
  · rw [if_pos ⟨Or.inr hj, g⟩, if_pos ⟨Or.inl (by omega), g⟩]
  · rw [if_neg (fun t => g t.2), if_neg (fun t => g t.2)]
theorem qm_I_al {R H i : Nat} {s : Nat → Int32} (h : qm_I R H (i + 1) 0 s) : qm_Al R H s := by
  intro j hj
  rw [h j hj]
  by_cases g : j = qm_K R ∧ H ≠ 0
  · rw [if_pos ⟨Or.inl (by omega), g⟩, if_pos g]
  · rw [if_neg (fun t => g t.2), if_neg g]
theorem qm_I_two {R H i c : Nat} {s : Nat → Int32} (h : qm_I R H i c s) : ∀ x y, x < 81 → y < 81 → x ≠ y → s x = 0 ∨ s y = 0 := by
  intro x y hx hy hn
  by_cases g : x = qm_K R
  · exact Or.inr (by rw [h y hy, if_neg (fun t => hn (g.trans t.2.1.symm))])
  · exact Or.inl (by rw [h x hx, if_neg (fun t => g t.2.1)])
section
variable {f0 f1 f2 f3 f4 f5 : Int32} {a1 a2 a3 a4 a5 a6 a7 a8 : Nat → Int32}
theorem qm_r164 {post : St2 → Prop} {R H : Nat} (hR : R < 16) (hA : qm_Al R H a3) (h4 : ∀ j, j < 81 → a4 j = 0)
    (P : ∀ cnt s, qm_Fr R H cnt a3 s → post (cnt, f1, f2, f3, f4, f5, a1, a2, a3, a4, s, a6, a7, a8)) :
    ∃ n, wX_refresh_164 post f1 f2 f3 f4 f5 n 0 0 a1 a2 a3 a4 a5 a6 a7 a8 := by
  have k81 := (qm_tK R hR).1
  refine pk_loop (σ := Int32 × (Nat → Int32)) (fun n i s => wX_refresh_164 post f1 f2 f3 f4 f5 n (nI i) s.1 a1 a2 a3 a4 s.2 a6 a7 a8) (fun i s => s.1 = nI (if qm_K R < i ∧ H ≠ 0 then 1 else 0) ∧ (qm_K R < i → H ≠ 0 → s.2 0 = nI (qm_K R))) 81 0 (0, a5) (by omega) ⟨?_, fun z => absurd z (by omega)⟩ ?_ ?_
  · rw [if_neg (fun t => absurd t.1 (by omega))]
    rfl
  · intro n s h
    refine pk_le 81 81 (fun _ => P s.1 s.2 ⟨hA, ?_, h.2 k81⟩) (fun z => absurd z (by omega))
    rw [h.1]
    by_cases g : H ≠ 0
    · rw [if_pos ⟨k81, g⟩, if_pos g]
    · rw [if_neg (fun t => g t.2), if_neg g]
  · intro n i s hi h hw
    obtain ⟨cnt, s⟩ := s
    have hc : cnt = nI (if qm_K R < i ∧ H ≠ 0 then 1 else 0) := h.1
    have hl : qm_K R < i → H ≠ 0 → s 0 = nI (qm_K R) := h.2
    show wX_refresh_164 post f1 f2 f3 f4 f5 (n + 1) (nI i) cnt a1 a2 a3 a4 s a6 a7 a8
    refine pk_le 81 i (fun z => absurd z (by omega)) (fun _ => ⟨pk_in i 81 hi, ?_⟩)
    rw [nI_clamp (show i < 2 ^ 31 by omega)]
    by_cases g : i = qm_K R ∧ H ≠ 0
    · refine br_f (by rw [hA i hi, if_pos g]; decide) ⟨pk_in i 81 hi, br_t (h4 i hi) ?_⟩
      rw [if_neg (fun t => absurd t.1 (by omega))] at hc
      rw [hc]
      refine pk_le 32 0 (fun z => absurd z (by omega)) (fun _ => ⟨pk_in 0 32 (by omega), nm_e (nm_r (nI_1 0) (nm_r (nI_1 i) (hw (nI 1, upd s (nI 0).toNatClampNeg (nI i)) ⟨?_, fun _ _ => ?_⟩)))⟩)
      · show nI 1 = _
        rw [if_pos ⟨by omega, g.2⟩]
      · show upd s (nI 0).toNatClampNeg (nI i) 0 = _
        rw [nI_clamp (by decide), pk_us, g.1]
    · refine br_t (by rw [hA i hi, if_neg g]) (nm_r (nI_1 i) (hw (cnt, s) ⟨?_, fun z1 z2 => hl ?_ z2⟩))
      · show cnt = _
        rw [hc]
        by_cases e : qm_K R < i ∧ H ≠ 0
        · rw [if_pos e, if_pos ⟨by omega, e.2⟩]
        · rw [if_neg e, if_neg (fun t => e ⟨?_, t.2⟩)]
          have t1 := t.1
          rcases Nat.lt_or_ge (qm_K R) i with u | u
          · exact u
          · exact absurd ⟨by omega, t.2⟩ g
      · rcases Nat.lt_or_ge (qm_K R) i with u | u
        · exact u
        · exact absurd ⟨by omega, z2⟩ g
theorem qm_r95 {post : St2 → Prop} {J : Int32 → Int32 → Int32 → Int32 → Int32 → Int32 → Int32 → (Nat → Int32) → (Nat → Int32) → (Nat → Int32) → (Nat → Int32) → (Nat → Int32) → (Nat → Int32) → (Nat → Int32) → (Nat → Int32) → Prop} {R H i : Nat} (hR : R < 16) (hH : H < 3) (hi : i < 5)
    (h1 : qm_Rw R H a1) (h2 : ∀ j, j < 81 → a2 j = qm_w j) (h3 : qm_I R H i 0 a3)
    (P : ∀ s, qm_I R H (i + 1) 0 s → J (nI (i + 1)) f0 f1 f2 f3 f4 f5 a1 a2 s a4 a5 a6 a7 a8) :
    ∃ n, wX_refresh_95 post J (nI i) n 0 f0 f1 f2 f3 f4 f5 a1 a2 a3 a4 a5 a6 a7 a8 := by
  obtain ⟨k81, kor, kfb⟩ := qm_tK R hR
  refine pk_loop (fun n c s => wX_refresh_95 post J (nI i) n (nI c) f0 f1 f2 f3 f4 f5 a1 a2 s a4 a5 a6 a7 a8) (fun c s => qm_I R H i c s) 81 0 a3 (by omega) h3 ?_ ?_
  · intro n s h
    exact pk_le 81 81 (fun _ => nm_r (nI_1 i) (P s (qm_I_end h))) (fun z => absurd z (by omega))
  · intro n c s hc h hw
    have l := qm_fbl c 4
    have ec : (nI c).toNatClampNeg = c := nI_clamp (by omega)
    refine pk_le 81 c (fun z => absurd z (by omega)) (fun _ => qm_free c hc ?_)
    refine pk_eq (qm_fb c 4) i (fun z => ?_) (fun z => nm_r (nI_1 c) (hw s (qm_I_skip h ?_)))
    · refine pk_eq i 0 (fun zi => ?_) (fun zi => ?_)
      · have f0' : qm_fb c 4 = 0 := z.trans zi
        obtain ⟨t1, t2, _, _⟩ := qm_t1 c hc f0'
        refine qm_only hc (h2 c hc) f0' ⟨pk_in (qm_or c) 16 t1, ?_⟩
        rw [nI_clamp (show qm_or c < 2 ^ 31 by omega), ec, h1 (qm_or c) t1]
        by_cases e : qm_or c = R
        · rw [if_pos e]
          have eK : c = qm_K R := by rw [← e, t2]
          by_cases g : H = 0
          · refine br_t (by rw [g]; rfl) ⟨pk_in c 81 hc, nm_e (nm_r (nI_1 c) (hw _ (qm_I_up h ?_)))⟩
            rw [if_neg (fun t => t.2 g)]
          · refine br_f (nI_ne0 (by omega) (by omega)) ⟨pk_in c 81 hc, nm_e (nm_r (nI_1 c) (hw _ (qm_I_up h ?_)))⟩
            rw [if_pos ⟨eK, g⟩]
        · rw [if_neg e]
          refine br_t rfl ⟨pk_in c 81 hc, nm_e (nm_r (nI_1 c) (hw _ (qm_I_up h ?_)))⟩
          rw [if_neg (fun t => e (by rw [t.1]; exact kor))]
      · refine qm_join hc (qm_I_two h) ⟨pk_in c 81 hc, ?_⟩
        rw [ec]
        refine nm_e (nm_r (nI_1 c) (hw _ (qm_I_up h ?_)))
        rw [if_neg (fun t => zi (by rw [← z, t.1]; exact kfb))]
        rfl
    · by_cases e : c = qm_K R
      · refine Or.inl ?_
        rw [e, kfb] at z
        omega
      · exact Or.inr e
theorem qm_r88 {post : St2 → Prop} {R H : Nat} (hR : R < 16) (hH : H < 3) (h1 : qm_Rw R H a1) (h2 : ∀ j, j < 81 → a2 j = qm_w j) (h3 : ∀ j, j < 81 → a3 j = 0) (h4 : ∀ j, j < 81 → a4 j = 0)
    (P : ∀ cnt a3' a5', qm_Fr R H cnt a3' a5' → post (cnt, f1, f2, f3, f4, f5, a1, a2, a3', a4, a5', a6, a7, a8)) :
    ∃ n, wX_refresh_88 post n 0 f0 f1 f2 f3 f4 f5 a1 a2 a3 a4 a5 a6 a7 a8 := by
  refine pk_loop (fun n i s => wX_refresh_88 post n (nI i) f0 f1 f2 f3 f4 f5 a1 a2 s a4 a5 a6 a7 a8) (fun i s => qm_I R H i 0 s) 5 0 a3 (by omega) ?_ ?_ ?_
  · intro j hj
    rw [h3 j hj, if_neg (fun t => t.1.elim (fun u => absurd u (by omega)) (fun u => absurd u (by omega)))]
  · intro n s h
    exact pk_lt 4 5 (fun _ => qm_r164 hR (qm_I_al h) h4 (fun cnt a5' h' => P cnt s a5' h')) (fun z => absurd z (by omega))
  · intro n i s hi h hw
    exact pk_lt 4 i (fun z => absurd z (by omega)) (fun _ => qm_r95 hR hH hi h1 h2 h (fun s' h' => hw s' h'))
theorem qm_r60 {post : St2 → Prop} {R H : Nat} (hR : R < 16) (hH : H < 3) (h1 : qm_Rw R H a1) (h2 : ∀ j, j < 81 → a2 j = qm_w j)
    (P : ∀ cnt a3' a4' a5', qm_Fr R H cnt a3' a5' → post (cnt, f1, f2, f3, f4, f5, a1, a2, a3', a4', a5', a6, a7, a8)) :
    ∃ n, wX_refresh_60 post f0 f1 f2 f3 f4 f5 n 0 a1 a2 a3 a4 a5 a6 a7 a8 := by
  refine pk_loop (σ := (Nat → Int32) × (Nat → Int32)) (fun n i s => wX_refresh_60 post f0 f1 f2 f3 f4 f5 n (nI i) a1 a2 s.1 s.2 a5 a6 a7 a8) (fun i s => (∀ j, j < i → s.1 j = 0) ∧ ∀ j, j < i → s.2 j = 0) 81 0 (a3, a4) (by omega) ⟨fun j hj => absurd hj (by omega), fun j hj => absurd hj (by omega)⟩ ?_ ?_
  · intro n s h
    exact pk_le 81 81 (fun _ => qm_r88 hR hH h1 h2 h.1 h.2 (fun cnt a3' a5' h' => P cnt a3' s.2 a5' h')) (fun z => absurd z (by omega))
  · intro n i s hi h hw
    obtain ⟨s, t⟩ := s
    have U : ∀ u : Nat → Int32, (∀ j, j < i → u j = 0) → ∀ j, j < i + 1 → upd u i 0 j = 0 := by
      intro u hu j hj
      by_cases e : j = i
      · rw [e, pk_us]
      · rw [pk_un e]
        exact hu j (by omega)
    show wX_refresh_60 post f0 f1 f2 f3 f4 f5 (n + 1) (nI i) a1 a2 s t a5 a6 a7 a8
    refine pk_le 81 i (fun z => absurd z (by omega)) (fun _ => ⟨pk_in i 81 hi, ?_⟩)
    rw [nI_clamp (show i < 2 ^ 31 by omega)]
    exact nm_e ⟨pk_in i 81 hi, nm_e (nm_r (nI_1 i) (hw (upd s i 0, upd t i 0) ⟨U s h.1, U t h.2⟩))⟩
theorem qm_refresh {post : St2 → Prop} {R H : Nat} (hR : R < 16) (hH : H < 3) (h1 : qm_Rw R H a1) (h2 : ∀ j, j < 81 → a2 j = qm_w j)
    (h5 : f5 = 0 ∨ (f5 = 1 ∧ qm_Fr R H f0 a3 a5))
    (P : ∀ cnt ons a3' a4' a5', qm_Fr R H cnt a3' a5' → post (cnt, ons, f2, f3, f4, 1, a1, a2, a3', a4', a5', a6, a7, a8)) :
    wpX_refresh post (f0, f1, f2, f3, f4, f5, a1, a2, a3, a4, a5, a6, a7, a8) := by
  rcases h5 with rfl | ⟨rfl, hf⟩
  · refine br_t rfl ?_
    refine pk_loop (σ := Int32) (fun n i s => wX_refresh_20 post f0 f2 f3 f4 1 a1 a2 a3 a4 a5 a6 a7 a8 n (nI i) s) (fun _ _ => True) 16 0 0 (by omega) trivial ?_ ?_
    · intro n s _
      exact pk_le 16 16 (fun _ => qm_r60 hR hH h1 h2 (fun cnt a3' a4' a5' h' => P cnt s a3' a4' a5' h')) (fun z => absurd z (by omega))
    · intro n i s hi _ hw
      exact pk_le 16 i (fun z => absurd z (by omega)) (fun _ => ⟨pk_in i 16 hi, br_c (fun _ => nm_e (nm_r (nI_1 i) (hw _ trivial))) (fun _ => nm_e (nm_r (nI_1 i) (hw _ trivial)))⟩)
  · exact br_f (by decide) (P f0 f1 a3 a4 a5 hf)
end
end
section
section
variable {f0 f1 f2 f3 f4 f5 : Int32} {a1 a2 a3 a4 a5 a6 a7 a8 : Nat → Int32} {R H : Nat}
/-- not a number below n -/
def qm_out (x : Int32) (n : Nat) : Prop := x < 0 ∨ ∃ j : Nat, n ≤ j ∧ j < 2 ^ 31 ∧ x = nI j
theorem qm_cases (x : Int32) (n : Nat) : qm_out x n ∨ ∃ j : Nat, j < n ∧ j < 2 ^ 31 ∧ x = nI j := by
  rcases qm_int x with h | ⟨j, hj, e⟩
  · exact Or.inl (Or.inl h)
  · rcases Nat.lt_or_ge j n with g | g
    · exact Or.inr ⟨j, g, hj, e⟩
    · exact Or.inl (Or.inr ⟨j, g, hj, e⟩)
theorem qm_fr {post : Int32 → Prop} {k : Nat} (hk : k < 4) (hR : R < 16) (hH : H < 3) (h1 : qm_Rw R H a1) (h : post (if H = 1 then 0 else 1)) : ∃ n, wX_free_18 post ((8 : Int32) >>> (nI k &&& 31)) f0 f1 f2 f3 f4 f5 a1 a2 a3 a4 a5 a6 a7 a8 n 0 := by
  have step : ∀ n i, i < 16 → (H = 1 → i ≠ R) → wX_free_18 post ((8 : Int32) >>> (nI k &&& 31)) f0 f1 f2 f3 f4 f5 a1 a2 a3 a4 a5 a6 a7 a8 n (nI (i + 1)) → wX_free_18 post ((8 : Int32) >>> (nI k &&& 31)) f0 f1 f2 f3 f4 f5 a1 a2 a3 a4 a5 a6 a7 a8 (n + 1) (nI i) := by
    intro n i hi hn hw
    refine pk_le 16 i (fun z => absurd z (by omega)) (fun _ => nm_e ⟨pk_in i 16 hi, br_f ?_ (nm_r (nI_1 i) hw)⟩)
    rw [nI_clamp (show i < 2 ^ 31 by omega), h1 i hi]
    by_cases e : i = R
    · rw [if_pos e]
      exact fun z => hn ((nI_eq (b := 1) (by omega) (by omega)).mp z) e
    · rw [if_neg e]
      decide
  by_cases g : H = 1
  · rw [if_pos g] at h
    refine pk_loop (σ := Unit) (fun n i _ => wX_free_18 post ((8 : Int32) >>> (nI k &&& 31)) f0 f1 f2 f3 f4 f5 a1 a2 a3 a4 a5 a6 a7 a8 n (nI i)) (fun _ _ => True) R 0 () (by omega) trivial ?_ (fun n i _ hi _ hw => step n i (by omega) (fun _ => by omega) (hw () trivial))
    intro n _ _
    obtain ⟨x1, x2, x3⟩ := qm_tX k hk R hR
    refine pk_le 16 R (fun z => absurd z (by omega)) (fun _ => nm_r x1 ⟨pk_in R 16 hR, br_t ?_ ⟨pk_in (R ^^^ (8 / 2 ^ k)) 16 x2, br_t ?_ h⟩⟩)
    · rw [nI_clamp (show R < 2 ^ 31 by omega), h1 R hR, if_pos rfl, g]
      rfl
    · rw [nI_clamp (show R ^^^ (8 / 2 ^ k) < 2 ^ 31 by omega), h1 _ x2, if_neg x3]
  · rw [if_neg g] at h
    exact pk_loop (σ := Unit) (fun n i _ => wX_free_18 post ((8 : Int32) >>> (nI k &&& 31)) f0 f1 f2 f3 f4 f5 a1 a2 a3 a4 a5 a6 a7 a8 n (nI i)) (fun _ _ => True) 16 0 () (by omega) trivial (fun n _ _ => pk_le 16 16 (fun _ => h) (fun z => absurd z (by omega))) (fun n i _ hi _ hw => step n i hi (fun z => absurd z g) (hw () trivial))
theorem qm_freeO {post : Int32 → Prop} {x : Int32} (hx : qm_out x 4) (h : post (-1)) : wpX_free post (f0, f1, f2, f3, f4, f5, a1, a2, a3, a4, a5, a6, a7, a8) x := by
  rcases hx with z | ⟨j, g, hj, rfl⟩
  · exact br_t z h
  · exact br_f (nI_pos hj) (pk_lt j 4 (fun z => absurd z (by omega)) (fun _ => h))
theorem qm_freeI {post : Int32 → Prop} {k : Nat} (hk : k < 4) (hR : R < 16) (hH : H < 3) (h1 : qm_Rw R H a1) (h : post (if H = 1 then 0 else 1)) : wpX_free post (f0, f1, f2, f3, f4, f5, a1, a2, a3, a4, a5, a6, a7, a8) (nI k) :=
  br_f (nI_pos (by omega)) (pk_lt k 4 (fun _ => nm_e (qm_fr hk hR hH h1 h)) (fun z => absurd z (by omega)))
theorem qm_rowO {post : Int32 → Prop} {x : Int32} (hx : qm_out x 16) (h : post 0) : wpX_isRow post () x := by
  rcases hx with z | ⟨j, g, hj, rfl⟩
  · exact br_t z h
  · exact br_f (nI_pos hj) (pk_le 16 j (fun _ => h) (fun z => absurd z (by omega)))
theorem qm_rowI {post : Int32 → Prop} {j : Nat} (hj : j < 16) (h : post 1) : wpX_isRow post () (nI j) :=
  br_f (nI_pos (by omega)) (pk_le 16 j (fun z => absurd z (by omega)) (fun _ => h))
theorem qm_cubO {post : Int32 → Prop} {x : Int32} (hx : qm_out x 81) (h : post 0) : wpX_isCube post () x := by
  rcases hx with z | ⟨j, g, hj, rfl⟩
  · exact br_t z h
  · exact br_f (nI_pos hj) (pk_le 81 j (fun _ => h) (fun z => absurd z (by omega)))
theorem qm_cubI {post : Int32 → Prop} {j : Nat} (hj : j < 81) (h : post 1) : wpX_isCube post () (nI j) :=
  br_f (nI_pos (by omega)) (pk_le 81 j (fun z => absurd z (by omega)) (fun _ => h))
theorem qm_prime {post : Int32 → St2 → Prop} (hR : R < 16) (hH : H < 3) (h1 : qm_Rw R H a1) (h2 : ∀ j, j < 81 → a2 j = qm_w j) (h5 : f5 = 0 ∨ (f5 = 1 ∧ qm_Fr R H f0 a3 a5))
    (P : ∀ cnt ons a3' a4' a5', post (if H = 0 then -1 else nI (qm_K R)) (cnt, ons, f2, f3, f4, 1, a1, a2, a3', a4', a5', a6, a7, a8)) : wpX_prime post (f0, f1, f2, f3, f4, f5, a1, a2, a3, a4, a5, a6, a7, a8) 0 := by
  unfold wpX_prime
  refine qm_refresh hR hH h1 h2 h5 (fun cnt ons a3' a4' a5' hf => br_f (by decide) ?_)
  have P' := P cnt ons a3' a4' a5'
  obtain ⟨_, hc, hl⟩ := hf
  by_cases g : H = 0
  · rw [if_neg (fun t => t g)] at hc
    rw [if_pos g] at P'
    exact br_t (by rw [hc]; decide) P'
  · rw [if_pos g] at hc
    rw [if_neg g, ← hl g] at P'
    exact br_f (by rw [hc]; decide) ⟨pk_in 0 32 (by omega), P'⟩
theorem qm_allO {post : Int32 → St2 → Prop} {x : Int32} (hx : qm_out x 81) (h : post (-1) (f0, f1, f2, f3, f4, f5, a1, a2, a3, a4, a5, a6, a7, a8)) : wpX_allowed post (f0, f1, f2, f3, f4, f5, a1, a2, a3, a4, a5, a6, a7, a8) x := by
  unfold wpX_allowed
  exact qm_cubO hx (br_t rfl h)
theorem qm_allI {post : Int32 → St2 → Prop} {c : Nat} (hc : c < 81) (hR : R < 16) (hH : H < 3) (h1 : qm_Rw R H a1) (h2 : ∀ j, j < 81 → a2 j = qm_w j) (h5 : f5 = 0 ∨ (f5 = 1 ∧ qm_Fr R H f0 a3 a5))
    (P : ∀ cnt ons a3' a4' a5', qm_Fr R H cnt a3' a5' → post (if c = qm_K R ∧ H ≠ 0 then 1 else 0) (cnt, ons, f2, f3, f4, 1, a1, a2, a3', a4', a5', a6, a7, a8)) : wpX_allowed post (f0, f1, f2, f3, f4, f5, a1, a2, a3, a4, a5, a6, a7, a8) (nI c) := by
  unfold wpX_allowed
  refine qm_cubI hc (br_f (by decide) (qm_refresh hR hH h1 h2 h5 (fun cnt ons a3' a4' a5' hf => ⟨pk_in c 81 hc, ?_⟩)))
  have P' := P cnt ons a3' a4' a5' hf
  rw [nI_clamp (show c < 2 ^ 31 by omega), hf.1 c hc]
  by_cases g : c = qm_K R ∧ H ≠ 0
  · rw [if_pos g] at P' ⊢
    exact br_f (by decide) P'
  · rw [if_neg g] at P' ⊢
    exact br_t rfl P'
theorem qm_sizO {post : Int32 → Prop} {x : Int32} (hx : qm_out x 81) (h : post (-1)) : wpX_size post (f0, f1, f2, f3, f4, f5, a1, a2, a3, a4, a5, a6, a7, a8) x := by
  unfold wpX_size
  exact qm_cubO hx (br_t rfl h)
theorem qm_sizI {post : Int32 → Prop} {c : Nat} (hc : c < 81) (h2 : ∀ j, j < 81 → a2 j = qm_w j) (h : post (nI (qm_sz c))) : wpX_size post (f0, f1, f2, f3, f4, f5, a1, a2, a3, a4, a5, a6, a7, a8) (nI c) := by
  unfold wpX_size
  refine qm_cubI hc (br_f (by decide) ⟨pk_in c 81 hc, ?_⟩)
  rw [nI_clamp (show c < 2 ^ 31 by omega), h2 c hc]
  refine qm_ones _ ?_
  rw [(qm_tS c hc).1]
  exact h
theorem qm_getO {post : Int32 → Prop} {x : Int32} (hx : qm_out x 16) (h : post (-1)) : wpX_row post (f0, f1, f2, f3, f4, f5, a1, a2, a3, a4, a5, a6, a7, a8) x := by
  unfold wpX_row
  exact qm_rowO hx (br_t rfl h)
theorem qm_getI {post : Int32 → Prop} {j : Nat} (hj : j < 16) (h : post (a1 j)) : wpX_row post (f0, f1, f2, f3, f4, f5, a1, a2, a3, a4, a5, a6, a7, a8) (nI j) := by
  unfold wpX_row
  refine qm_rowI hj (br_f (by decide) ⟨pk_in j 16 hj, ?_⟩)
  rw [nI_clamp (show j < 2 ^ 31 by omega)]
  exact h
theorem qm_setO {post : Int32 → St2 → Prop} {x y : Int32} (hx : qm_out x 16) (h : post (-1) (f0, f1, f2, f3, f4, f5, a1, a2, a3, a4, a5, a6, a7, a8)) : wpX_set post (f0, f1, f2, f3, f4, f5, a1, a2, a3, a4, a5, a6, a7, a8) x y := by
  unfold wpX_set
  exact qm_rowO hx (br_t rfl h)
theorem qm_setH {post : Int32 → St2 → Prop} {r : Nat} {y : Int32} (hr : r < 16) (hx : qm_out y 3) (h : post (-2) (f0, f1, f2, f3, f4, f5, a1, a2, a3, a4, a5, a6, a7, a8)) : wpX_set post (f0, f1, f2, f3, f4, f5, a1, a2, a3, a4, a5, a6, a7, a8) (nI r) y := by
  unfold wpX_set
  refine qm_rowI hr (br_f (by decide) ?_)
  rcases hx with z | ⟨j, g, hj, rfl⟩
  · exact br_t z h
  · exact br_f (nI_pos hj) (pk_le j 2 (fun z => absurd z (by omega)) (fun _ => h))
theorem qm_setI {post : Int32 → St2 → Prop} {r h : Nat} (hr : r < 16) (hh : h < 3) (P : post (a1 r) (f0, f1, f2, f3, f4, 0, upd a1 r (nI h), a2, a3, a4, a5, a6, a7, a8)) : wpX_set post (f0, f1, f2, f3, f4, f5, a1, a2, a3, a4, a5, a6, a7, a8) (nI r) (nI h) := by
  unfold wpX_set
  refine qm_rowI hr (br_f (by decide) (br_f (nI_pos (by omega)) (pk_le h 2 (fun _ => ⟨pk_in r 16 hr, ?_⟩) (fun z => absurd z (by omega)))))
  rw [nI_clamp (show r < 2 ^ 31 by omega)]
  exact nm_e ⟨pk_in r 16 hr, nm_e P⟩
end
end
section
section
variable {f0 f1 f2 f3 f4 f5 : Int32} {a1 a2 a3 a4 a5 a6 a7 a8 : Nat → Int32} {R H : Nat} {post : Int32 → St0 → Prop} {mc ms kc ks : Nat} {x0 x1 x2 x3 x4 x6 x7 x8 x10 x11 x12 x13 x14 x15 z0 z1 : Int32}
/-- what the law's later pieces rest on: row R is held as H (then the script's row is R), and the words stand -/
def qm_P (R H : Nat) (x0 : Int32) (a1 a2 : Nat → Int32) : Prop := R < 16 ∧ H < 3 ∧ (H ≠ 0 → x0 = nI R) ∧ qm_Rw R H a1 ∧ ∀ j, j < 81 → a2 j = qm_w j
/-- refresh is owed, or has been done -/
def qm_C (R H : Nat) (cnt cur : Int32) (a3 a5 : Nat → Int32) : Prop := cur = 0 ∨ (cur = 1 ∧ qm_Fr R H cnt a3 a5)
theorem qm_371 (hp : post 1 ()) (p : qm_P R H x0 a1 a2) (hz : z1 = z0) : wL_lawOf_371 post mc ms x4 (nI H) z0 z1 kc ks f0 f1 f2 f3 f4 f5 a1 a2 a3 a4 a5 a6 a7 a8 := by
  obtain ⟨hR, hH, _, h1, _⟩ := p
  refine br_t hz ?_
  rcases qm_cases x4 4 with hx | ⟨k, hk, hk2, rfl⟩
  · refine qm_freeO hx ?_
    rcases hx with z | ⟨j, g, hj, rfl⟩
    · exact br_t z (br_t rfl hp)
    · exact br_f (nI_pos hj) (pk_le j 3 (fun z => absurd z (by omega)) (fun _ => br_t rfl hp))
  · refine qm_freeI hk hR hH h1 (br_f (nI_pos hk2) (pk_le k 3 (fun _ => pk_eq H 1 (fun z => br_t ?_ hp) (fun z => br_t ?_ hp)) (fun z => absurd z (by omega))))
    · rw [if_pos z]
    · rw [if_neg z]
theorem qm_318 (hp : post 1 ()) (p : qm_P R H x0 a1 a2) (hc : qm_C R H f0 f5 a3 a5) (hz : z1 = z0) : wL_lawOf_318 post mc ms x0 x4 (nI H) z0 z1 kc ks f0 f1 f2 f3 f4 f5 a1 a2 a3 a4 a5 a6 a7 a8 := by
  have p' := p
  obtain ⟨hR, hH, hx, h1, h2⟩ := p
  refine br_t hz (nm_e (qm_prime hR hH h1 h2 hc (fun cnt ons a3' a4' a5' => ?_)))
  refine pk_le H 0 (fun z => qm_371 hp p' ?_) (fun z => qm_371 hp p' ?_)
  · rw [if_pos (by omega)]
  · rw [if_neg (by omega), hx (by omega)]
    exact (qm_tN R hR).symm
theorem qm_286a (hp : post 1 ()) (p : qm_P R H x0 a1 a2) (hc : qm_C R H f0 f5 a3 a5) (hx : qm_out x2 81) : wL_lawOf_286 post mc ms x0 x2 x4 (nI H) 0 z0 kc ks f0 f1 f2 f3 f4 f5 a1 a2 a3 a4 a5 a6 a7 a8 :=
  qm_allO hx (br_t rfl (qm_318 hp p hc rfl))
theorem qm_286b (hp : post 1 ()) (p : qm_P R H x0 a1 a2) (hc : qm_C R H f0 f5 a3 a5) {c : Nat} (hx : c < 81) (k0 : z0 = 0 → H ≠ 0 → c ≠ qm_K R) (k1 : z0 ≠ 0 → H ≠ 0 → c = qm_K R) : wL_lawOf_286 post mc ms x0 (nI c) x4 (nI H) 1 z0 kc ks f0 f1 f2 f3 f4 f5 a1 a2 a3 a4 a5 a6 a7 a8 := by
  have p' := p
  obtain ⟨hR, hH, _, h1, h2⟩ := p
  refine qm_allI hx hR hH h1 h2 hc (fun cnt ons a3' a4' a5' hf => br_f (by decide) (br_c (fun g => qm_318 hp p' (Or.inr ⟨rfl, hf⟩) ?_) (fun g => pk_le H 0 (fun z => qm_318 hp p' (Or.inr ⟨rfl, hf⟩) ?_) (fun z => qm_318 hp p' (Or.inr ⟨rfl, hf⟩) ?_))))
  · rw [if_neg (fun t => k0 g t.2 t.1)]
  · rw [if_neg (fun t => t.2 (by omega))]
  · rw [if_pos ⟨k1 g (by omega), by omega⟩]
theorem qm_248a (hp : post 1 ()) (p : qm_P R H x0 a1 a2) (hc : qm_C R H f0 f5 a3 a5) (hx : qm_out x2 81) (hz : z1 = z0) : wL_lawOf_248 post mc ms x0 x2 x4 (nI H) 0 x11 x12 x13 x14 x15 z0 z1 kc ks f0 f1 f2 f3 f4 f5 a1 a2 a3 a4 a5 a6 a7 a8 :=
  br_t hz (br_c (fun _ => br_c (fun _ => qm_286a hp p hc hx) (fun _ => qm_286a hp p hc hx)) (fun _ => qm_286a hp p hc hx))
theorem qm_orE (c : Nat) : (((8 * nI (qm_dg c 0)) + (4 * nI (qm_dg c 1))) + (2 * nI (qm_dg c 2))) + nI (qm_dg c 3) = nI (qm_or c) := by
  show (((nI 8 * nI (qm_dg c 0)) + (nI 4 * nI (qm_dg c 1))) + (nI 2 * nI (qm_dg c 2))) + nI (qm_dg c 3) = nI (qm_or c)
  rw [pk_mul, pk_mul, pk_mul, nI_add, nI_add, nI_add]
  rfl
theorem qm_248b (hp : post 1 ()) (p : qm_P R H x0 a1 a2) (hc : qm_C R H f0 f5 a3 a5) {c : Nat} (hx : c < 81) (hz : z1 = z0) : wL_lawOf_248 post mc ms x0 (nI c) x4 (nI H) 1 (nI (qm_dg c 0)) (nI (qm_dg c 1)) (nI (qm_dg c 2)) (nI (qm_dg c 3)) (nI (qm_sz c)) z0 z1 kc ks f0 f1 f2 f3 f4 f5 a1 a2 a3 a4 a5 a6 a7 a8 := by
  have p' := p
  obtain ⟨hR, hH, hx0, h1, h2⟩ := p
  obtain ⟨_, s1, s2, s3⟩ := qm_tS c hx
  obtain ⟨k81, kor, kfb⟩ := qm_tK R hR
  refine br_t hz (pk_eq (qm_sz c) 1 (fun z => ?_) (fun z => qm_286b hp p' hc hx (fun _ _ e => z ?_) (fun e => absurd rfl e)))
  · rw [qm_orE]
    refine br_c (fun g => qm_286b hp p' hc hx (fun e => absurd e (by decide)) (fun _ hn => ?_)) (fun g => qm_286b hp p' hc hx (fun _ hn e => g ?_) (fun e => absurd rfl e))
    · rw [hx0 hn] at g
      have e := (nI_eq (by omega) (by omega)).mp g
      rw [← e]
      exact (qm_t1 c hx (s2.mp z)).2.1.symm
    · rw [hx0 hn, e, kor]
  · exact s2.mpr (by rw [e]; exact kfb)
theorem qm_228a (hp : post 1 ()) (p : qm_P R H x0 a1 a2) (hc : qm_C R H f0 f5 a3 a5) (hx : qm_out x2 81) : wL_lawOf_228 post mc ms x0 x2 x4 (nI H) 0 x11 x12 x13 x14 z0 z1 kc ks f0 f1 f2 f3 f4 f5 a1 a2 a3 a4 a5 a6 a7 a8 :=
  nm_e (qm_sizO hx (br_t rfl (qm_248a hp p hc hx rfl)))
theorem qm_228b (hp : post 1 ()) (p : qm_P R H x0 a1 a2) (hc : qm_C R H f0 f5 a3 a5) {c : Nat} (hx : c < 81) (hz : z1 * z0 = nI (qm_sz c)) : wL_lawOf_228 post mc ms x0 (nI c) x4 (nI H) 1 (nI (qm_dg c 0)) (nI (qm_dg c 1)) (nI (qm_dg c 2)) (nI (qm_dg c 3)) z0 z1 kc ks f0 f1 f2 f3 f4 f5 a1 a2 a3 a4 a5 a6 a7 a8 :=
  nm_r hz (qm_sizI hx p.2.2.2.2 (br_f (by decide) (qm_248b hp p hc hx rfl)))
theorem qm_193a (hp : post 1 ()) (p : qm_P R H x0 a1 a2) (hc : qm_C R H f0 f5 a3 a5) (hx : qm_out x2 81) : wL_lawOf_193 post mc ms x0 x2 x4 (nI H) 0 x11 x12 x13 x14 z0 kc ks f0 f1 f2 f3 f4 f5 a1 a2 a3 a4 a5 a6 a7 a8 := by
  have h216 : ∀ z0 z1, wL_lawOf_216 post mc ms x0 x2 x4 (nI H) 0 x11 x12 x13 x14 z0 z1 kc ks f0 f1 f2 f3 f4 f5 a1 a2 a3 a4 a5 a6 a7 a8 := fun z0 z1 => br_c (fun _ => qm_228a hp p hc hx) (fun _ => qm_228a hp p hc hx)
  have h204 : ∀ z0 z1, wL_lawOf_204 post mc ms x0 x2 x4 (nI H) 0 x11 x12 x13 x14 z0 z1 kc ks f0 f1 f2 f3 f4 f5 a1 a2 a3 a4 a5 a6 a7 a8 := fun z0 z1 => br_c (fun _ => h216 _ _) (fun _ => h216 _ _)
  exact br_c (fun _ => h204 _ _) (fun _ => h204 _ _)
theorem qm_mul {x y : Int32} {a d b : Nat} (h : x = nI a) (hy : y = nI b) (hb : b = qm_s d) : x * y = nI (a * qm_s d) := by
  rw [h, hy, hb, pk_mul]
theorem qm_s2 {d : Nat} (h : d = 2) : 2 = qm_s d := by
  unfold qm_s
  rw [if_pos h]
theorem qm_s1 {d : Nat} (h : d ≠ 2) : 1 = qm_s d := by
  unfold qm_s
  rw [if_neg h]
theorem qm_193b (hp : post 1 ()) (p : qm_P R H x0 a1 a2) (hc : qm_C R H f0 f5 a3 a5) {c : Nat} (hx : c < 81) (hz : z0 = nI (qm_s (qm_dg c 0))) : wL_lawOf_193 post mc ms x0 (nI c) x4 (nI H) 1 (nI (qm_dg c 0)) (nI (qm_dg c 1)) (nI (qm_dg c 2)) (nI (qm_dg c 3)) z0 kc ks f0 f1 f2 f3 f4 f5 a1 a2 a3 a4 a5 a6 a7 a8 := by
  have d1 := qm_dg3 c 1
  have d2 := qm_dg3 c 2
  have d3 := qm_dg3 c 3
  have h216 : ∀ z0 z1 : Int32, z1 * z0 = nI (qm_s (qm_dg c 0) * qm_s (qm_dg c 1) * qm_s (qm_dg c 2)) → wL_lawOf_216 post mc ms x0 (nI c) x4 (nI H) 1 (nI (qm_dg c 0)) (nI (qm_dg c 1)) (nI (qm_dg c 2)) (nI (qm_dg c 3)) z0 z1 kc ks f0 f1 f2 f3 f4 f5 a1 a2 a3 a4 a5 a6 a7 a8 := fun z0 z1 h =>
    pk_eq (qm_dg c 3) 2 (fun z => qm_228b hp p hc hx (qm_mul h (b := 2) rfl (qm_s2 z))) (fun z => qm_228b hp p hc hx (qm_mul h (b := 1) rfl (qm_s1 z)))
  have h204 : ∀ z0 z1 : Int32, z1 * z0 = nI (qm_s (qm_dg c 0) * qm_s (qm_dg c 1)) → wL_lawOf_204 post mc ms x0 (nI c) x4 (nI H) 1 (nI (qm_dg c 0)) (nI (qm_dg c 1)) (nI (qm_dg c 2)) (nI (qm_dg c 3)) z0 z1 kc ks f0 f1 f2 f3 f4 f5 a1 a2 a3 a4 a5 a6 a7 a8 := fun z0 z1 h =>
    pk_eq (qm_dg c 2) 2 (fun z => h216 _ _ (qm_mul h (b := 2) rfl (qm_s2 z))) (fun z => h216 _ _ (qm_mul h (b := 1) rfl (qm_s1 z)))
  exact pk_eq (qm_dg c 1) 2 (fun z => h204 _ _ (qm_mul hz (b := 2) rfl (qm_s2 z))) (fun z => h204 _ _ (qm_mul hz (b := 1) rfl (qm_s1 z)))
theorem qm_154a (hp : post 1 ()) (p : qm_P R H x0 a1 a2) (hc : qm_C R H f0 f5 a3 a5) (hx : qm_out x2 81) : wL_lawOf_154 post mc ms x0 x2 x4 (nI H) 0 kc ks f0 f1 f2 f3 f4 f5 a1 a2 a3 a4 a5 a6 a7 a8 :=
  ⟨by decide, nm_e ⟨by decide, by decide, nm_e ⟨by decide, by decide, nm_e ⟨by decide, nm_e (br_c (fun _ => qm_193a hp p hc hx) (fun _ => qm_193a hp p hc hx))⟩⟩⟩⟩
theorem qm_154b (hp : post 1 ()) (p : qm_P R H x0 a1 a2) (hc : qm_C R H f0 f5 a3 a5) {c : Nat} (hx : c < 81) : wL_lawOf_154 post mc ms x0 (nI c) x4 (nI H) 1 kc ks f0 f1 f2 f3 f4 f5 a1 a2 a3 a4 a5 a6 a7 a8 := by
  obtain ⟨e0, e1, e2, e3⟩ := qm_tD c hx
  have d0 := qm_dg3 c 0
  exact ⟨by decide, nm_r e0 ⟨by decide, by decide, nm_r e1 ⟨by decide, by decide, nm_r e2 ⟨by decide, nm_r e3 (pk_eq (qm_dg c 0) 2 (fun z => qm_193b hp p hc hx (by rw [← qm_s2 z]; rfl)) (fun z => qm_193b hp p hc hx (by rw [← qm_s1 z]; rfl)))⟩⟩⟩⟩
theorem qm_134 (hp : post 1 ()) (p : qm_P R H x0 a1 a2) (hc : qm_C R H f0 f5 a3 a5) (hz : z1 = z0) : wL_lawOf_134 post mc ms x0 x2 x4 (nI H) z0 z1 kc ks f0 f1 f2 f3 f4 f5 a1 a2 a3 a4 a5 a6 a7 a8 := by
  refine br_t hz ?_
  rcases qm_cases x2 81 with hx | ⟨c, hx, _, rfl⟩
  · have k := qm_154a (post := post) (mc := mc) (ms := ms) (kc := kc) (ks := ks) (x4 := x4) (f1 := f1) (f2 := f2) (f3 := f3) (f4 := f4) (a4 := a4) (a6 := a6) (a7 := a7) (a8 := a8) hp p hc hx
    rcases hx with z | ⟨j, g, hj, rfl⟩
    · exact br_t z k
    · exact br_f (nI_pos hj) (pk_lt 80 j (fun _ => k) (fun z => absurd z (by omega)))
  · exact br_f (nI_pos (by omega)) (pk_lt 80 c (fun z => absurd z (by omega)) (fun _ => qm_154b hp p hc hx))
theorem qm_89 (hp : post 1 ()) (p : qm_P R H x0 a1 a2) (hc : qm_C R H f0 f5 a3 a5) : wL_lawOf_89 post mc ms x0 x2 x3 x4 (nI H) kc ks f0 f1 f2 f3 f4 f5 a1 a2 a3 a4 a5 a6 a7 a8 := by
  have p' := p
  obtain ⟨hR, hH, hx0, h1, h2⟩ := p
  rcases qm_cases x3 16 with hx | ⟨j, hx, _, rfl⟩
  · have k : wL_lawOf_106 post mc ms x0 x2 x3 x4 (nI H) 0 kc ks f0 f1 f2 f3 f4 f5 a1 a2 a3 a4 a5 a6 a7 a8 := qm_getO hx (br_t rfl (qm_134 hp p' hc rfl))
    rcases hx with z | ⟨j, g, hj, rfl⟩
    · exact br_t z k
    · exact br_f (nI_pos hj) (pk_lt 15 j (fun _ => k) (fun z => absurd z (by omega)))
  · refine br_f (nI_pos (by omega)) (pk_lt 15 j (fun z => absurd z (by omega)) (fun _ => qm_getI hx (br_f (by decide) ?_)))
    rw [h1 j hx]
    refine br_c (fun g => qm_134 hp p' hc ?_) (fun g => qm_134 hp p' hc ?_)
    · by_cases e : j = R
      · rw [if_pos e]
      · rw [if_neg e]
        by_cases hn : H = 0
        · rw [hn]
          rfl
        · rw [hx0 hn] at g
          exact absurd ((nI_eq (by omega) (by omega)).mp g) e
    · by_cases e : j = R
      · rw [if_pos e]
        by_cases hn : H = 0
        · rw [hn]
          rfl
        · exact absurd (by rw [hx0 hn, e]) g
      · rw [if_neg e]
theorem qm_24O (hp : post 1 ()) (hx : qm_out x0 16) (h1 : ∀ j, j < 16 → a1 j = 0) (h2 : ∀ j, j < 81 → a2 j = qm_w j) : wL_lawOf_24 post mc ms x0 x1 x2 x3 x4 0 kc ks f0 f1 f2 f3 f4 0 a1 a2 a3 a4 a5 a6 a7 a8 := by
  have p : qm_P 0 0 x0 a1 a2 := ⟨by omega, by omega, fun z => absurd rfl z, fun j hj => by rw [h1 j hj]; split <;> rfl, h2⟩
  have k : ∀ z0, wL_lawOf_40 post mc ms x0 x1 x2 x3 x4 0 z0 kc ks f0 f1 f2 f3 f4 0 a1 a2 a3 a4 a5 a6 a7 a8 := fun z0 => qm_setO hx (br_t rfl (br_t rfl (br_t rfl (qm_89 (H := 0) hp p (Or.inl rfl)))))
  exact br_c (fun _ => k _) (fun _ => br_c (fun _ => k _) (fun _ => k _))
theorem qm_24I (hp : post 1 ()) {r : Nat} (hr : r < 16) (h1 : ∀ j, j < 16 → a1 j = 0) (h2 : ∀ j, j < 81 → a2 j = qm_w j) : wL_lawOf_24 post mc ms (nI r) x1 x2 x3 x4 1 kc ks f0 f1 f2 f3 f4 0 a1 a2 a3 a4 a5 a6 a7 a8 := by
  rcases qm_cases x1 3 with hx | ⟨h, hx, _, rfl⟩
  · have p : qm_P 0 0 (nI r) a1 a2 := ⟨by omega, by omega, fun z => absurd rfl z, fun j hj => by rw [h1 j hj]; split <;> rfl, h2⟩
    have k9 : wL_lawOf_69 post mc ms (nI r) x1 x2 x3 x4 1 0 (-2) (-2) kc ks f0 f1 f2 f3 f4 0 a1 a2 a3 a4 a5 a6 a7 a8 := br_t rfl (br_f (by decide) (br_t rfl (qm_89 (H := 0) hp p (Or.inl rfl))))
    have k : wL_lawOf_40 post mc ms (nI r) x1 x2 x3 x4 1 0 kc ks f0 f1 f2 f3 f4 0 a1 a2 a3 a4 a5 a6 a7 a8 := qm_setH hr hx (br_f (by decide) (br_t rfl k9))
    rcases hx with z | ⟨j, g, hj, rfl⟩
    · exact br_t z k
    · exact br_f (nI_pos hj) (pk_lt 2 j (fun _ => k) (fun z => absurd z (by omega)))
  · have p : qm_P r h (nI r) (upd a1 r (nI h)) a2 := by
      refine ⟨hr, hx, fun _ => rfl, fun j hj => ?_, h2⟩
      by_cases e : j = r
      · rw [e, pk_us, if_pos rfl]
      · rw [pk_un e, if_neg e]
        exact h1 j hj
    exact br_f (nI_pos (by omega)) (pk_lt 2 h (fun z => absurd z (by omega)) (fun _ => qm_setI hr hx (br_f (by decide) (br_f (by decide) (br_t (h1 r hr) (br_f (by decide) (br_f (by decide) (qm_89 hp p (Or.inl rfl)))))))))
theorem qm_lawOf (hp : post 1 ()) : wpL_lawOf post 9 407 () x0 x1 x2 x3 x4 := by
  refine ⟨by decide, by decide, 8, 393, by decide, by decide, qm_init (by decide) (by decide) (fun s hs => ?_)⟩
  rcases qm_cases x0 16 with hx | ⟨r, hx, _, rfl⟩
  · have k := fun kc ks => qm_24O (post := post) (mc := 9) (ms := 407) (kc := kc) (ks := ks) (x1 := x1) (x2 := x2) (x3 := x3) (x4 := x4) (f0 := 0) (f1 := 0) (f2 := 0) (f3 := 0) (f4 := 0) (a3 := fun _ => 0) (a4 := fun _ => 0) (a5 := fun _ => 0) (a6 := fun _ => 0) (a7 := fun _ => 0) (a8 := fun _ => 0) hp hx (a1 := fun _ => 0) (fun _ _ => rfl) hs
    rcases hx with z | ⟨j, g, hj, rfl⟩
    · exact br_t z (k _ _)
    · exact br_f (nI_pos hj) (pk_lt 15 j (fun _ => k _ _) (fun z => absurd z (by omega)))
  · exact br_f (nI_pos (by omega)) (pk_lt 15 r (fun z => absurd z (by omega)) (fun _ => qm_24I hp hx (fun _ _ => rfl) hs))
end
end
section
theorem qm_cell {post : Int32 → Prop} {L : Nat} {xs : Nat → Int32} (hL : L ≤ 5) (k : Nat) (hk : k < 5) (h : ∀ r, post r) : wpL_cellAt post L xs () (nI k) :=
  pk_le L k (fun _ => h _) (fun z => ⟨pk_in k L z, h _⟩)
theorem i_vc (xs : Nat → Int32) (L : Nat) (hL : L ≤ 5) : wpL_law (fun r => r = 1) L xs :=
  qm_cell hL 0 (by decide) (fun _ => qm_cell hL 1 (by decide) (fun _ => qm_cell hL 2 (by decide) (fun _ => qm_cell hL 3 (by decide) (fun _ => qm_cell hL 4 (by decide) (fun _ => ⟨9, 407, by decide, by decide, qm_lawOf rfl⟩)))))
end
