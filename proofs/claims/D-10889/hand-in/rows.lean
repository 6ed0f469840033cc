section
/-- what a view divides each coordinate by (0: all of it is one) -/
def oc_bA (v : Nat) : Nat := if v / 16 = 2 then 0 else v / 16 + 1
def oc_bB (v : Nat) : Nat := if v / 4 % 4 = 3 then 0 else v / 4 % 4 + 1
def oc_bC (v : Nat) : Nat := if v % 4 = 3 then 0 else 2 ^ (v % 4)
/-- the cell of a view that a place falls into -/
def oc_sn (v p : Nat) : Nat := 48 * (p / 48 / oc_bA v) + 8 * (p / 8 % 6 / oc_bB v) + p % 8 / oc_bC v
theorem oc_sn_lt {v p : Nat} (hp : p < 192) : oc_sn v p < 192 := by
  unfold oc_sn
  have h1 := Nat.div_le_self (p / 48) (oc_bA v)
  have h2 := Nat.div_le_self (p / 8 % 6) (oc_bB v)
  have h3 := Nat.div_le_self (p % 8) (oc_bC v)
  generalize p / 48 / oc_bA v = x at *
  generalize p / 8 % 6 / oc_bB v = y at *
  generalize p % 8 / oc_bC v = z at *
  omega
theorem oc_sn_0 {p : Nat} (hp : p < 192) : oc_sn 0 p = p := by
  have h1 : oc_bA 0 = 1 := by decide
  have h2 : oc_bB 0 = 1 := by decide
  have h3 : oc_bC 0 = 1 := by decide
  unfold oc_sn
  rw [h1, h2, h3, Nat.div_one, Nat.div_one, Nat.div_one]
  omega
theorem oc_bA_lt {v : Nat} (hv : v < 48) : oc_bA v < 2 ^ 31 := by
  unfold oc_bA
  split <;> omega
theorem oc_bB_lt {v : Nat} (hv : v < 48) : oc_bB v < 2 ^ 31 := by
  unfold oc_bB
  split <;> omega
theorem oc_p2 : ∀ k, k < 4 → 2 ^ k < 2 ^ 31 := by decide
theorem oc_bC_lt {v : Nat} (hv : v < 48) : oc_bC v < 2 ^ 31 := by
  unfold oc_bC
  split
  · omega
  · exact oc_p2 _ (by omega)
theorem oc_lin (a b c : Nat) : 48 * nI a + 8 * nI b + nI c = nI (48 * a + 8 * b + c) := by
  rw [show (48 : Int32) = nI 48 from rfl, show (8 : Int32) = nI 8 from rfl, pk_mul, pk_mul, nI_add, nI_add]
theorem oc_at (k c : Nat) : 192 * nI k + nI c = nI (192 * k + c) := by
  rw [show (192 : Int32) = nI 192 from rfl, pk_mul, nI_add]
theorem oc_d48 {p : Nat} (hp : p < 192) : nI p / 48 = nI (p / 48) := pk_div (d := 48) (by omega) (by omega) (by omega)
theorem oc_d8 {p : Nat} (hp : p < 192) : nI p / 8 = nI (p / 8) := pk_div (d := 8) (by omega) (by omega) (by omega)
theorem oc_m8 {p : Nat} (hp : p < 192) : nI p - nI p / 8 * 8 = nI (p % 8) := pk_rem (d := 8) (by omega) (by omega) (by omega)
theorem oc_m6 {p : Nat} (hp : p < 192) : nI p / 8 - nI p / 8 / 6 * 6 = nI (p / 8 % 6) := by
  rw [oc_d8 hp]
  exact pk_rem (d := 6) (by omega) (by omega) (by omega)
theorem oc_v16 {v : Nat} (hv : v < 48) : nI v / 16 = nI (v / 16) := pk_div (d := 16) (by omega) (by omega) (by omega)
theorem oc_v4 {v : Nat} (hv : v < 48) : nI v / 4 - nI v / 4 / 4 * 4 = nI (v / 4 % 4) := by
  rw [show nI v / 4 = nI (v / 4) from pk_div (d := 4) (by omega) (by omega) (by omega)]
  exact pk_rem (d := 4) (by omega) (by omega) (by omega)
theorem oc_vm {v : Nat} (hv : v < 48) : nI v - nI v / 4 * 4 = nI (v % 4) := pk_rem (d := 4) (by omega) (by omega) (by omega)
theorem oc_sh1 : ∀ k, k < 4 → (1 : Int32) <<< (nI k &&& 31) = nI (2 ^ k) := by decide +kernel
/-! small methods -/
theorem oc_byA {post : Int32 → Prop} {v : Nat} (hv : v < 48) (H : post (nI (oc_bA v))) : wpX_byA post () (nI v) := by
  unfold wpX_byA
  refine nm_r (e' := nI (v / 16)) (pk_shrN (by omega) _ 4 (by decide)) ?_
  refine pk_eq (v / 16) 2 (fun z => ?_) (fun z => ?_)
  · have e : oc_bA v = 0 := if_pos z
    rw [e] at H
    exact H
  · have e : oc_bA v = v / 16 + 1 := if_neg z
    rw [e] at H
    rw [nI_1]
    exact H
theorem oc_byB {post : Int32 → Prop} {v : Nat} (hv : v < 48) (H : post (nI (oc_bB v))) : wpX_byB post () (nI v) := by
  unfold wpX_byB
  refine nm_r (e' := nI (v / 4 % 4)) (by rw [pk_shrN (by omega) _ 2 (by decide)]; exact pk_andN (by omega) 2 (by decide)) ?_
  refine pk_eq (v / 4 % 4) 3 (fun z => ?_) (fun z => ?_)
  · have e : oc_bB v = 0 := if_pos z
    rw [e] at H
    exact H
  · have e : oc_bB v = v / 4 % 4 + 1 := if_neg z
    rw [e] at H
    rw [nI_1]
    exact H
theorem oc_byC {post : Int32 → Prop} {v : Nat} (hv : v < 48) (H : post (nI (oc_bC v))) : wpX_byC post () (nI v) := by
  unfold wpX_byC
  refine nm_r (e' := nI (v % 4)) (pk_andN (by omega) 2 (by decide)) ?_
  refine pk_eq (v % 4) 3 (fun z => ?_) (fun z => ?_)
  · have e : oc_bC v = 0 := if_pos z
    rw [e] at H
    exact H
  · have e : oc_bC v = 2 ^ (v % 4) := if_neg z
    rw [e] at H
    rw [oc_sh1 _ (by omega)]
    exact H
theorem oc_co {post : Int32 → Prop} {x b : Nat} (hx : x < 2 ^ 31) (hb : b < 2 ^ 31) (H : post (nI (x / b))) : wpX_coarser post () (nI x) (nI b) := by
  unfold wpX_coarser
  refine pk_le b 0 (fun z => ?_) (fun z => ⟨nI_ne0 z hb, ?_⟩)
  · have e : b = 0 := by omega
    rw [e, Nat.div_zero] at H
    exact H
  · rw [pk_div hx z hb]
    exact H
theorem oc_seenAs {post : Int32 → Prop} {v p : Nat} (hv : v < 48) (hp : p < 192) (H : post (nI (oc_sn v p))) : wpX_seenAs post () (nI v) (nI p) := by
  unfold wpX_seenAs
  rw [oc_d48 hp, oc_m6 hp, oc_m8 hp]
  refine ⟨by decide, oc_byA hv (oc_co (by omega) (oc_bA_lt hv) ⟨by decide, by decide, oc_byB hv (oc_co (by omega) (oc_bB_lt hv) ⟨by decide, oc_byC hv (oc_co (by omega) (oc_bC_lt hv) ?_)⟩)⟩)⟩
  rw [oc_lin]
  exact H
theorem oc_cellFrom {post : Int32 → Prop} {v c : Nat} (hv : v < 48) (hc : c < 192) (H : post (nI (oc_sn v c))) : wpX_cellFrom post () (nI 0) (nI c) (nI v) := by
  unfold wpX_cellFrom
  rw [oc_d48 hc, oc_m6 hc, oc_m8 hc]
  have one : ∀ n : Nat, nI 1 * nI n = nI n := fun n => by rw [pk_mul, Nat.one_mul]
  refine oc_byA (v := 0) (by omega) ⟨by decide, nm_r (e' := nI (c / 48)) (one _) (oc_byB (v := 0) (by omega) ⟨by decide, by decide, nm_r (e' := nI (c / 8 % 6)) (one _) (oc_byC (v := 0) (by omega) ⟨by decide, nm_r (e' := nI (c % 8)) (one _) ?_⟩)⟩)⟩
  rw [oc_lin, show 48 * (c / 48) + 8 * (c / 8 % 6) + c % 8 = c by omega]
  exact oc_seenAs hv hc H
/-! the law's own view of a place -/
theorem oc_seen {post : Int32 → Prop} {v p : Nat} (hv : v < 48) (hp : p < 192) (H : post (nI (oc_sn v p))) : wpL_seen post () (nI v) (nI p) := by
  have k3 : ∀ a b : Nat, a = p / 48 / oc_bA v → b = p / 8 % 6 / oc_bB v → wL_seen_87 post (nI a) (nI b) (nI (p % 8)) (nI (v % 4)) := by
    intro a b ha hb
    have key : ∀ c : Nat, c = p % 8 / oc_bC v → wL_seen_121 post (nI a) (nI b) (nI c) := by
      intro c hc
      unfold wL_seen_121
      rw [oc_lin, ha, hb, hc]
      exact H
    unfold wL_seen_87
    refine pk_le (v % 4) 0 (fun z => key _ ?_) (fun z => pk_eq (v % 4) 1 (fun z1 => ⟨by decide, ?_⟩) (fun z1 => pk_eq (v % 4) 2 (fun z2 => ⟨by decide, ?_⟩) (fun z2 => key 0 ?_)))
    · unfold oc_bC
      rw [show v % 4 = 0 by omega, if_neg (by decide)]
      exact (Nat.div_one _).symm
    · rw [show nI (p % 8) / 2 = nI (p % 8 / 2) from pk_div (d := 2) (by omega) (by omega) (by omega)]
      refine key _ ?_
      unfold oc_bC
      rw [z1, if_neg (by decide)]
    · rw [show nI (p % 8) / 4 = nI (p % 8 / 4) from pk_div (d := 4) (by omega) (by omega) (by omega)]
      refine key _ ?_
      unfold oc_bC
      rw [z2, if_neg (by decide)]
    · unfold oc_bC
      rw [if_pos (by omega), Nat.div_zero]
  have k2 : ∀ a : Nat, a = p / 48 / oc_bA v → wL_seen_56 post (nI a) (nI (p / 8 % 6)) (nI (p % 8)) (nI (v / 4 % 4)) (nI (v % 4)) := by
    intro a ha
    unfold wL_seen_56
    refine pk_le (v / 4 % 4) 0 (fun z => k3 a _ ha ?_) (fun z => pk_eq (v / 4 % 4) 1 (fun z1 => ⟨by decide, ?_⟩) (fun z1 => pk_eq (v / 4 % 4) 2 (fun z2 => ⟨by decide, ?_⟩) (fun z2 => k3 a 0 ha ?_)))
    · unfold oc_bB
      rw [show v / 4 % 4 = 0 by omega, if_neg (by decide)]
      exact (Nat.div_one _).symm
    · rw [show nI (p / 8 % 6) / 2 = nI (p / 8 % 6 / 2) from pk_div (d := 2) (by omega) (by omega) (by omega)]
      refine k3 a _ ha ?_
      unfold oc_bB
      rw [z1, if_neg (by decide)]
    · rw [show nI (p / 8 % 6) / 3 = nI (p / 8 % 6 / 3) from pk_div (d := 3) (by omega) (by omega) (by omega)]
      refine k3 a _ ha ?_
      unfold oc_bB
      rw [z2, if_neg (by decide)]
    · unfold oc_bB
      rw [if_pos (by omega), Nat.div_zero]
  unfold wpL_seen
  refine ⟨by decide, nm_r (oc_d48 hp) ⟨by decide, by decide, nm_r (oc_m6 hp) ⟨by decide, nm_r (oc_m8 hp) ⟨by decide, nm_r (oc_v16 hv) ⟨by decide, by decide, nm_r (oc_v4 hv) ⟨by decide, nm_r (oc_vm hv) ?_⟩⟩⟩⟩⟩⟩
  refine pk_le (v / 16) 0 (fun z => k2 _ ?_) (fun z => pk_eq (v / 16) 1 (fun z1 => ⟨by decide, ?_⟩) (fun z1 => k2 0 ?_))
  · unfold oc_bA
    rw [show v / 16 = 0 by omega, if_neg (by decide)]
    exact (Nat.div_one _).symm
  · rw [show nI (p / 48) / 2 = nI (p / 48 / 2) from pk_div (d := 2) (by omega) (by omega) (by omega)]
    refine k2 _ ?_
    unfold oc_bA
    rw [z1, if_neg (by decide)]
  · unfold oc_bA
    rw [if_pos (by omega), Nat.div_zero]
end
section
/-- 192 places of an array from b on: x at the place c, y at all others (c of 192 or more: y at all) -/
def oc_ar (b c : Nat) (x y : Int32) (g : Nat → Int32) : Prop := ∀ j, j < 192 → g (b + j) = if j = c then x else y
/-- g is f but for the 192 places from b on -/
def oc_oo (b : Nat) (f g : Nat → Int32) : Prop := ∀ j, j < b ∨ b + 192 ≤ j → g j = f j
/-- a slot k holds one fact of the measure m in its cell c (c of 192 or more: none) -/
def oc_sl (k c : Nat) (m : Int32) (a6 a7 a8 a9 : Nat → Int32) : Prop := oc_ar (192 * k) c 1 0 a6 ∧ oc_ar (192 * k) c m 0 a7 ∧ oc_ar (192 * k) c m 10000 a8 ∧ oc_ar (192 * k) c m (-10000) a9
/-- no slot but k has changed -/
def oc_ou (k : Nat) (a6 a7 a8 a9 b6 b7 b8 b9 : Nat → Int32) : Prop := oc_oo (192 * k) a6 b6 ∧ oc_oo (192 * k) a7 b7 ∧ oc_oo (192 * k) a8 b8 ∧ oc_oo (192 * k) a9 b9
theorem oc_ar_e {b c c' : Nat} {x x' y : Int32} {g : Nat → Int32} (hc : 192 ≤ c) (hc' : 192 ≤ c') (h : oc_ar b c x y g) : oc_ar b c' x' y g := by
  intro j hj
  rw [h j hj, if_neg (by omega), if_neg (by omega)]
theorem oc_sl_e {k c c' : Nat} {m m' : Int32} {a6 a7 a8 a9 : Nat → Int32} (hc : 192 ≤ c) (hc' : 192 ≤ c') (h : oc_sl k c m a6 a7 a8 a9) : oc_sl k c' m' a6 a7 a8 a9 :=
  ⟨oc_ar_e hc hc' h.1, oc_ar_e hc hc' h.2.1, oc_ar_e hc hc' h.2.2.1, oc_ar_e hc hc' h.2.2.2⟩
theorem oc_ar_o {b b' c : Nat} {x y : Int32} {f g : Nat → Int32} (hb : b + 192 ≤ b' ∨ b' + 192 ≤ b) (h : oc_ar b c x y f) (ho : oc_oo b' f g) : oc_ar b c x y g := by
  intro j hj
  rw [ho (b + j) (by omega)]
  exact h j hj
theorem oc_sl_o {k k' c : Nat} {m : Int32} {a6 a7 a8 a9 b6 b7 b8 b9 : Nat → Int32} (hk : k ≠ k') (h : oc_sl k c m a6 a7 a8 a9) (ho : oc_ou k' a6 a7 a8 a9 b6 b7 b8 b9) : oc_sl k c m b6 b7 b8 b9 := by
  have hb : 192 * k + 192 ≤ 192 * k' ∨ 192 * k' + 192 ≤ 192 * k := by omega
  exact ⟨oc_ar_o hb h.1 ho.1, oc_ar_o hb h.2.1 ho.2.1, oc_ar_o hb h.2.2.1 ho.2.2.1, oc_ar_o hb h.2.2.2 ho.2.2.2⟩
theorem oc_ar_u {b e c : Nat} {n x y : Int32} {g : Nat → Int32} (he : 192 ≤ e) (h : oc_ar b e n y g) : oc_ar b c x y (upd g (b + c) x) := by
  intro j hj
  by_cases z : j = c
  · rw [z, pk_us, if_pos rfl]
  · rw [pk_un (by omega), h j hj, if_neg (by omega), if_neg z]
theorem oc_oo_u {b c : Nat} {x : Int32} {g : Nat → Int32} (hc : c < 192) : oc_oo b g (upd g (b + c) x) := by
  intro j hj
  exact pk_un (by omega)
/-! wiping a slot -/
/-- the first i places from b on hold x, the places outside the 192 are as they were -/
def oc_fi (b i : Nat) (x : Int32) (f g : Nat → Int32) : Prop := (∀ j, j < i → g (b + j) = x) ∧ oc_oo b f g
theorem oc_fi_s {b i : Nat} {x : Int32} {f g : Nat → Int32} (hi : i < 192) (h : oc_fi b i x f g) : oc_fi b (i + 1) x f (upd g (b + i) x) := by
  refine ⟨fun j hj => ?_, fun j hj => ?_⟩
  · by_cases z : j = i
    · rw [z, pk_us]
    · rw [pk_un (by omega)]
      exact h.1 j (by omega)
  · rw [pk_un (by omega)]
    exact h.2 j hj
theorem oc_fi_ar {b : Nat} {x y : Int32} {f g : Nat → Int32} (h : oc_fi b 192 y f g) : oc_ar b 192 x y g := by
  intro j hj
  rw [h.1 j hj, if_neg (by omega)]
theorem oc_wipe {post : St2 → Prop} {sz ck : Int32} {a1 a2 a3 a4 a5 a6 a7 a8 a9 : Nat → Int32} {k : Nat} (hk : k < 5) (H : ∀ b4 b6 b7 b8 b9 : Nat → Int32, oc_sl k 192 0 b6 b7 b8 b9 → oc_ou k a6 a7 a8 a9 b6 b7 b8 b9 → post (sz, ck, a1, a2, a3, b4, a5, b6, b7, b8, b9)) : wpX_wipe post (sz, ck, a1, a2, a3, a4, a5, a6, a7, a8, a9) (nI k) := by
  unfold wpX_wipe
  dsimp only
  refine ⟨pk_in k 5 hk, nm_e (nm_r (e' := nI (192 * k + 0)) (by rw [show (192 : Int32) = nI 192 from rfl]; exact pk_mul 192 k) ?_)⟩
  refine pk_loop (σ := (Nat → Int32) × (Nat → Int32) × (Nat → Int32) × (Nat → Int32)) (fun n i s => wX_wipe_13 post (nI k) sz ck n (nI (192 * k + i)) a1 a2 a3 (upd a4 (nI k).toNatClampNeg 0) a5 s.1 s.2.1 s.2.2.1 s.2.2.2) (fun i s => oc_fi (192 * k) i 0 a6 s.1 ∧ oc_fi (192 * k) i 0 a7 s.2.1 ∧ oc_fi (192 * k) i 10000 a8 s.2.2.1 ∧ oc_fi (192 * k) i (-10000) a9 s.2.2.2) 192 0 (a6, a7, a8, a9) (by omega) ?_ ?_ ?_
  · have t : ∀ (x : Int32) (f : Nat → Int32), oc_fi (192 * k) 0 x f f := fun x f => ⟨fun j hj => absurd hj (by omega), fun j hj => rfl⟩
    exact ⟨t _ _, t _ _, t _ _, t _ _⟩
  · intro n s h
    refine pk_le (192 * k + 192) (192 * k + 192) (fun _ => ?_) (fun z => absurd z (by omega)) (oc_at k 192)
    exact H _ _ _ _ _ ⟨oc_fi_ar h.1, oc_fi_ar h.2.1, oc_fi_ar h.2.2.1, oc_fi_ar h.2.2.2⟩ ⟨h.1.2, h.2.1.2, h.2.2.1.2, h.2.2.2.2⟩
  · intro n i s hi h hw
    have hin : vp_in (nI (192 * k + i)) 960 := pk_in (192 * k + i) 960 (by omega)
    have hcl : (nI (192 * k + i)).toNatClampNeg = 192 * k + i := nI_clamp (by omega)
    refine pk_le (192 * k + 192) (192 * k + i) (fun z => absurd z (by omega)) (fun _ => ?_) (oc_at k 192)
    rw [hcl]
    exact ⟨hin, nm_e ⟨hin, nm_e ⟨hin, nm_e ⟨hin, nm_e (nm_r (nI_1 _) (hw (_, _, _, _) ⟨oc_fi_s hi h.1, oc_fi_s hi h.2.1, oc_fi_s hi h.2.2.1, oc_fi_s hi h.2.2.2⟩))⟩⟩⟩⟩
/-! a fact is entered into an empty slot -/
theorem oc_enter {post : St2 → Prop} {sz ck : Int32} {a1 a2 a3 a4 a5 a6 a7 a8 a9 : Nat → Int32} {k c e : Nat} {m n : Int32} (hk : k < 5) (hc : c < 192) (he : 192 ≤ e) (hm1 : ¬ 10000 ≤ m) (hm2 : ¬ m ≤ (-10000)) (h : oc_sl k e n a6 a7 a8 a9) (H : ∀ b4 b6 b7 b8 b9 : Nat → Int32, oc_sl k c m b6 b7 b8 b9 → oc_ou k a6 a7 a8 a9 b6 b7 b8 b9 → post (sz, ck, a1, a2, a3, b4, a5, b6, b7, b8, b9)) : wpX_enter post (sz, ck, a1, a2, a3, a4, a5, a6, a7, a8, a9) (nI k) (nI c) 1 m m m := by
  have hin : vp_in (nI (192 * k + c)) 960 := pk_in (192 * k + c) 960 (by omega)
  have hcl : (nI (192 * k + c)).toNatClampNeg = 192 * k + c := nI_clamp (by omega)
  have e6 : a6 (192 * k + c) = 0 := by rw [h.1 c hc, if_neg (by omega)]
  have e7 : a7 (192 * k + c) = 0 := by rw [h.2.1 c hc, if_neg (by omega)]
  have e8 : a8 (192 * k + c) = 10000 := by rw [h.2.2.1 c hc, if_neg (by omega)]
  have e9 : a9 (192 * k + c) = (-10000) := by rw [h.2.2.2 c hc, if_neg (by omega)]
  have fin : ∀ b4 : Nat → Int32, post (sz, ck, a1, a2, a3, b4, a5, upd a6 (192 * k + c) 1, upd a7 (192 * k + c) m, upd a8 (192 * k + c) m, upd a9 (192 * k + c) m) := fun b4 => H b4 _ _ _ _ ⟨oc_ar_u he h.1, oc_ar_u he h.2.1, oc_ar_u he h.2.2.1, oc_ar_u he h.2.2.2⟩ ⟨oc_oo_u hc, oc_oo_u hc, oc_oo_u hc, oc_oo_u hc⟩
  unfold wpX_enter
  dsimp only
  refine nm_r (oc_at k c) ⟨pk_in k 5 hk, hin, br_t (by rw [hcl]; exact e6) ?_⟩
  unfold wX_enter_31
  rw [hcl, e6, e7, e8]
  refine ⟨pk_in k 5 hk, nm_e ⟨hin, hin, nm_e ⟨hin, hin, nm_e ⟨hin, br_f hm1 ?_⟩⟩⟩⟩
  unfold wX_enter_86
  rw [hcl, e9, Int32.zero_add, Int32.zero_add]
  exact ⟨hin, nm_e ⟨hin, br_f hm2 ⟨hin, nm_e (fin _)⟩⟩⟩
/-! the constructor -/
theorem oc_init {post : St2 → Prop} (H : ∀ a1 a2 a3 a4 a5 a6 a7 a8 a9 : Nat → Int32, a3 0 = 0 → (∀ j, 1 ≤ j → j < 5 → a3 j = (-1)) → oc_sl 0 192 0 a6 a7 a8 a9 → post (0, 0, a1, a2, a3, a4, a5, a6, a7, a8, a9)) : wpX_init post 9 3935 (0, 0) := by
  unfold wpX_init
  dsimp only
  refine ⟨by omega, by omega, by omega, by omega, by omega, by omega, by omega, by omega, by omega, by omega, by omega, by omega, by omega, by omega, by omega, by omega, by omega, by omega, ?_⟩
  refine pk_loop (fun n i s => wX_init_79 post 9 3935 9 3935 0 0 n (nI i) (fun _ => 0) (fun _ => 0) s (fun _ => 0) (fun _ => 0) (fun _ => 0) (fun _ => 0) (fun _ => 0) (fun _ => 0)) (fun i s => 1 ≤ i ∧ s 0 = 0 ∧ ∀ j, 1 ≤ j → j < i → s j = (-1)) 5 1 (fun _ => 0) (by omega) ⟨by omega, rfl, fun j h1 h2 => absurd h2 (by omega)⟩ ?_ ?_
  · intro n s h
    exact pk_le 5 5 (fun _ => oc_wipe (k := 0) (by omega) (fun b4 b6 b7 b8 b9 g1 g2 => H _ _ _ _ _ _ _ _ _ h.2.1 h.2.2 g1)) (fun z => absurd z (by omega))
  · intro n i s hi h hw
    refine pk_le 5 i (fun z => absurd z (by omega)) (fun z => ⟨pk_in i 5 hi, nm_r (e' := upd s i (-1)) (by rw [nI_clamp (by omega)]) (nm_r (nI_1 i) (hw _ ⟨by omega, ?_, fun j h1 h2 => ?_⟩))⟩)
    · rw [pk_un (by omega)]
      exact h.2.1
    · by_cases y : j = i
      · rw [y, pk_us]
      · rw [pk_un y]
        exact h.2.2 j h1 (by omega)
end
section
/-! a fact is put -/
theorem oc_add_sk {post : St2 → Prop} {x1 x2 : Int32} {sz ck : Int32} {a1 a2 a3 a4 a5 a6 a7 a8 a9 : Nat → Int32} {n i : Nat} (hi : i < 5) (h : a3 i = (-1)) (H : wX_add_32 post x1 x2 n (nI (i + 1)) sz ck a1 a2 a3 a4 a5 a6 a7 a8 a9) : wX_add_32 post x1 x2 (n + 1) (nI i) sz ck a1 a2 a3 a4 a5 a6 a7 a8 a9 := by
  refine pk_le 5 i (fun z => absurd z (by omega)) (fun _ => ⟨pk_in i 5 hi, br_t (by rw [nI_clamp (by omega)]; exact h) (nm_r (nI_1 i) H)⟩)
theorem oc_add_end {post : St2 → Prop} {x1 x2 : Int32} {sz ck : Int32} {a1 a2 a3 a4 a5 a6 a7 a8 a9 : Nat → Int32} {n : Nat} (H : post (sz, ck, a1, a2, a3, a4, a5, a6, a7, a8, a9)) : wX_add_32 post x1 x2 (n + 1) (nI 5) sz ck a1 a2 a3 a4 a5 a6 a7 a8 a9 := by
  exact pk_le 5 5 (fun _ => H) (fun z => absurd z (by omega))
theorem oc_add {post : St2 → Prop} {ck : Int32} {a1 a2 a3 a4 a5 a6 a7 a8 a9 : Nat → Int32} {p e : Nat} {m n : Int32} (hp : p < 192) (he : 192 ≤ e) (hm1 : ¬ 10000 ≤ m) (hm2 : ¬ m ≤ (-10000)) (h30 : a3 0 = 0) (h3 : ∀ j, 1 ≤ j → j < 5 → a3 j = (-1)) (h : oc_sl 0 e n a6 a7 a8 a9)
    (H : ∀ b1 b2 b4 b6 b7 b8 b9 : Nat → Int32, b1 0 = nI p → oc_sl 0 p m b6 b7 b8 b9 → post (1, ck, b1, b2, a3, b4, a5, b6, b7, b8, b9)) : wpX_add post (0, ck, a1, a2, a3, a4, a5, a6, a7, a8, a9) (nI p) m := by
  unfold wpX_add
  dsimp only
  refine ⟨pk_in 0 40 (by omega), nm_r (e' := upd a1 0 (nI p)) rfl ⟨pk_in 0 40 (by omega), nm_r (e' := upd a2 0 m) rfl (nm_r (e' := 1) (by decide) ⟨6, ?_⟩)⟩⟩
  refine pk_le 5 0 (fun z => absurd z (by omega)) (fun _ => ⟨pk_in 0 5 (by omega), ?_⟩)
  have e0 : a3 (0 : Int32).toNatClampNeg = nI 0 := h30
  rw [e0]
  refine br_f (by decide) ⟨pk_in 0 5 (by omega), oc_seenAs (v := 0) (by omega) hp ?_⟩
  rw [oc_sn_0 hp]
  refine oc_enter (k := 0) (by omega) hp he hm1 hm2 h (fun b4 b6 b7 b8 b9 g1 g2 => nm_r (nI_1 0) ?_)
  exact oc_add_sk (i := 1) (by omega) (h3 1 (by omega) (by omega)) (oc_add_sk (i := 2) (by omega) (h3 2 (by omega) (by omega)) (oc_add_sk (i := 3) (by omega) (h3 3 (by omega) (by omega)) (oc_add_sk (i := 4) (by omega) (h3 4 (by omega) (by omega)) (oc_add_end (H _ _ _ _ _ _ _ pk_us g1)))))
/-! a view is worked out into slot 1 from slot 0 -/
/-- t is the cell of the view v that the cell c of the finest view falls into -/
def oc_tc (v c t : Nat) : Prop := c < 192 ∧ t = oc_sn v c ∨ 192 ≤ c ∧ 192 ≤ t
theorem oc_workOut {post : St2 → Prop} {sz ck : Int32} {a1 a2 a3 a4 a5 a6 a7 a8 a9 : Nat → Int32} {v c t : Nat} {m : Int32} (hv : v < 48) (ht : oc_tc v c t) (hm1 : ¬ 10000 ≤ m) (hm2 : ¬ m ≤ (-10000)) (h30 : a3 0 = 0) (h : oc_sl 0 c m a6 a7 a8 a9)
    (H : ∀ b3 b4 b5 b6 b7 b8 b9 : Nat → Int32, b3 0 = 0 → b3 1 = nI v → oc_sl 0 c m b6 b7 b8 b9 → oc_sl 1 t m b6 b7 b8 b9 → post (sz, ck, a1, a2, b3, b4, b5, b6, b7, b8, b9)) : wpX_workOut post (sz, ck, a1, a2, a3, a4, a5, a6, a7, a8, a9) (nI v) (nI 0) (nI 1) := by
  unfold wpX_workOut
  dsimp only
  refine oc_wipe (k := 1) (by omega) (fun c4 c6 c7 c8 c9 g1 g2 => ?_)
  dsimp only
  refine ⟨pk_in 1 5 (by omega), nm_r (e' := upd a3 1 (nI v)) rfl ⟨pk_in 1 5 (by omega), nm_r (e' := upd a5 1 ck) rfl ?_⟩⟩
  have k0 : upd a3 1 (nI v) 0 = 0 := by
    rw [pk_un (by omega)]
    exact h30
  have k1 : upd a3 1 (nI v) 1 = nI v := pk_us
  generalize upd a3 1 (nI v) = b3 at k0 k1 ⊢
  generalize upd a5 1 ck = b5
  refine pk_loop (σ := (Nat → Int32) × (Nat → Int32) × (Nat → Int32) × (Nat → Int32) × (Nat → Int32)) (fun n i s => wX_workOut_25 post (nI v) (nI 0) (nI 1) n (nI i) sz ck a1 a2 b3 s.1 b5 s.2.1 s.2.2.1 s.2.2.2.1 s.2.2.2.2) (fun i s => oc_sl 0 c m s.2.1 s.2.2.1 s.2.2.2.1 s.2.2.2.2 ∧ oc_sl 1 (if c < i then t else 192) m s.2.1 s.2.2.1 s.2.2.2.1 s.2.2.2.2) 192 0 (c4, c6, c7, c8, c9) (by omega) ⟨oc_sl_o (by omega) h g2, ?_⟩ ?_ ?_
  · rw [if_neg (by omega)]
    exact oc_sl_e (Nat.le_refl 192) (Nat.le_refl 192) g1
  · intro n s hs
    refine pk_le 192 192 (fun _ => ?_) (fun z => absurd z (by omega))
    refine H _ _ _ _ _ _ _ k0 k1 hs.1 ?_
    rcases ht with ⟨z, y⟩ | ⟨z, y⟩
    · have q := hs.2
      rw [if_pos z] at q
      exact q
    · have q := hs.2
      rw [if_neg (by omega)] at q
      exact oc_sl_e (Nat.le_refl 192) y q
  · intro n i s hi hs hw
    obtain ⟨s4, s6, s7, s8, s9⟩ := s
    have hin : vp_in (nI i) 960 := pk_in i 960 (by omega)
    have hcl : (nI i).toNatClampNeg = i := nI_clamp (by omega)
    have hs0 : oc_sl 0 c m s6 s7 s8 s9 := hs.1
    have hs1 : oc_sl 1 (if c < i then t else 192) m s6 s7 s8 s9 := hs.2
    have e6 : s6 i = if i = c then 1 else 0 := by have q := hs0.1 i hi; rwa [show 192 * 0 + i = i by omega] at q
    have e7 : s7 i = if i = c then m else 0 := by have q := hs0.2.1 i hi; rwa [show 192 * 0 + i = i by omega] at q
    have e8 : s8 i = if i = c then m else 10000 := by have q := hs0.2.2.1 i hi; rwa [show 192 * 0 + i = i by omega] at q
    have e9 : s9 i = if i = c then m else (-10000) := by have q := hs0.2.2.2 i hi; rwa [show 192 * 0 + i = i by omega] at q
    refine pk_le 192 i (fun z => absurd z (by omega)) (fun _ => nm_r (e' := nI i) (by rw [oc_at, show 192 * 0 + i = i by omega]) ⟨hin, ?_⟩)
    dsimp only
    rw [hcl]
    by_cases y : i = c
    · rw [if_pos y] at e6 e7 e8 e9
      rw [e6, e7, e8, e9]
      have hc : c < 192 := by omega
      have hty : t = oc_sn v c := by
        rcases ht with ⟨_, y'⟩ | ⟨z', _⟩
        · exact y'
        · exact absurd hc (by omega)
      refine br_f (by decide) ⟨pk_in 0 5 (by omega), ?_⟩
      have eb : b3 (nI 0).toNatClampNeg = nI 0 := k0
      rw [eb]
      have g := hs1
      rw [if_neg (by omega)] at g
      refine oc_cellFrom hv hi ⟨hin, hin, hin, hin, oc_enter (k := 1) (by omega) (oc_sn_lt hi) (Nat.le_refl 192) hm1 hm2 g (fun b4 b6 b7 b8 b9 g3 g4 => nm_r (nI_1 i) (hw (_, _, _, _, _) ⟨oc_sl_o (by omega) hs0 g4, ?_⟩))⟩
      rw [if_pos (by omega), hty, ← y]
      exact g3
    · rw [if_neg y] at e6
      rw [e6]
      refine br_t (by decide) (nm_r (nI_1 i) (hw (s4, s6, s7, s8, s9) ⟨hs0, ?_⟩))
      have q := hs1
      by_cases w : c < i
      · rw [if_pos w] at q
        rw [if_pos (by omega)]
        exact q
      · rw [if_neg w] at q
        rw [if_neg (by omega)]
        exact q
/-! the slot with a view -/
/-- slot 0 holds the finest view; the others are free, or slot 1 holds the view v -/
def oc_R (v c t : Nat) (m : Int32) (a3 a6 a7 a8 a9 : Nat → Int32) : Prop := a3 0 = 0 ∧ oc_sl 0 c m a6 a7 a8 a9 ∧ ((∀ j, 1 ≤ j → j < 5 → a3 j = (-1)) ∨ (a3 1 = nI v ∧ oc_sl 1 t m a6 a7 a8 a9))
theorem oc_12_sk {post : Int32 → St2 → Prop} {x1 : Int32} {sz ck : Int32} {a1 a2 a3 a4 a5 a6 a7 a8 a9 : Nat → Int32} {n i : Nat} (hi : i < 5) (h : ¬ a3 i = x1) (H : wX_slotFor_12 post x1 sz ck a1 a2 a3 a4 a5 a6 a7 a8 a9 n (nI (i + 1))) : wX_slotFor_12 post x1 sz ck a1 a2 a3 a4 a5 a6 a7 a8 a9 (n + 1) (nI i) := by
  exact pk_le 5 i (fun z => absurd z (by omega)) (fun _ => ⟨pk_in i 5 hi, br_f (by rw [nI_clamp (by omega)]; exact h) (nm_r (nI_1 i) H)⟩)
theorem oc_12_hit {post : Int32 → St2 → Prop} {x1 : Int32} {sz ck : Int32} {a1 a2 a3 a4 a5 a6 a7 a8 a9 : Nat → Int32} {n i : Nat} (hi : i < 5) (h : a3 i = x1) (H : ∀ b5 : Nat → Int32, post (nI i) (sz, ck, a1, a2, a3, a4, b5, a6, a7, a8, a9)) : wX_slotFor_12 post x1 sz ck a1 a2 a3 a4 a5 a6 a7 a8 a9 (n + 1) (nI i) := by
  exact pk_le 5 i (fun z => absurd z (by omega)) (fun _ => ⟨pk_in i 5 hi, br_t (by rw [nI_clamp (by omega)]; exact h) ⟨pk_in i 5 hi, nm_e (H _)⟩⟩)
theorem oc_12_end {post : Int32 → St2 → Prop} {x1 : Int32} {sz ck : Int32} {a1 a2 a3 a4 a5 a6 a7 a8 a9 : Nat → Int32} {n : Nat} (H : ∃ f, wX_slotFor_49 post x1 sz ck a1 a2 a3 a4 a5 a6 a7 a8 a9 f 0 1) : wX_slotFor_12 post x1 sz ck a1 a2 a3 a4 a5 a6 a7 a8 a9 (n + 1) (nI 5) := by
  exact pk_le 5 5 (fun _ => H) (fun z => absurd z (by omega))
theorem oc_49_sk {post : Int32 → St2 → Prop} {x1 x2 : Int32} {sz ck : Int32} {a1 a2 a3 a4 a5 a6 a7 a8 a9 : Nat → Int32} {n i : Nat} (hi : i < 5) (h : a3 i = (-1)) (H : wX_slotFor_49 post x1 sz ck a1 a2 a3 a4 a5 a6 a7 a8 a9 n x2 (nI (i + 1))) : wX_slotFor_49 post x1 sz ck a1 a2 a3 a4 a5 a6 a7 a8 a9 (n + 1) x2 (nI i) := by
  refine pk_le 5 i (fun z => absurd z (by omega)) (fun _ => ⟨pk_in i 5 hi, br_t (by rw [nI_clamp (by omega)]; exact h) ?_⟩)
  unfold wX_slotFor_81 wX_slotFor_82
  exact br_t rfl (nm_r (nI_1 i) H)
theorem oc_49_end {post : Int32 → St2 → Prop} {x1 : Int32} {sz ck : Int32} {a1 a2 a3 a4 a5 a6 a7 a8 a9 : Nat → Int32} {n : Nat} (H : ∃ f, wX_slotFor_130 post x1 (nI 0) sz ck a1 a2 a3 a4 a5 a6 a7 a8 a9 f 1 1) : wX_slotFor_49 post x1 sz ck a1 a2 a3 a4 a5 a6 a7 a8 a9 (n + 1) (nI 0) (nI 5) := by
  exact pk_le 5 5 (fun _ => br_f (by decide) H) (fun z => absurd z (by omega))
theorem oc_130_sk {post : Int32 → St2 → Prop} {x1 : Int32} {sz ck : Int32} {a1 a2 a3 a4 a5 a6 a7 a8 a9 : Nat → Int32} {n i : Nat} (hi : i < 5) (h0 : 1 ≤ i) (h1 : a3 1 = (-1)) (h : a3 i = (-1)) (H : wX_slotFor_130 post x1 (nI 0) sz ck a1 a2 a3 a4 a5 a6 a7 a8 a9 n (nI 1) (nI (i + 1))) : wX_slotFor_130 post x1 (nI 0) sz ck a1 a2 a3 a4 a5 a6 a7 a8 a9 (n + 1) (nI 1) (nI i) := by
  refine pk_le 5 i (fun z => absurd z (by omega)) (fun _ => pk_eq i 0 (fun z => absurd z (by omega)) (fun _ => ⟨pk_in i 5 hi, br_t (by rw [nI_clamp (by omega)]; exact h) ?_⟩))
  unfold wX_slotFor_169
  exact ⟨pk_in 1 5 (by omega), br_t h1 (nm_r (nI_1 i) H)⟩
theorem oc_130_end {post : Int32 → St2 → Prop} {v : Int32} {sz ck : Int32} {a1 a2 a3 a4 a5 a6 a7 a8 a9 : Nat → Int32} {n : Nat} (H : wpX_workOut (post (nI 1)) (sz, ck, a1, a2, a3, a4, a5, a6, a7, a8, a9) v (nI 0) (nI 1)) : wX_slotFor_130 post v (nI 0) sz ck a1 a2 a3 a4 a5 a6 a7 a8 a9 (n + 1) (nI 1) (nI 5) := by
  exact pk_le 5 5 (fun _ => H) (fun z => absurd z (by omega))
theorem oc_slotFor {post : Int32 → St2 → Prop} {sz ck : Int32} {a1 a2 a3 a4 a5 a6 a7 a8 a9 : Nat → Int32} {v c t : Nat} {m : Int32} (hv : v < 48) (ht : oc_tc v c t) (hm1 : ¬ 10000 ≤ m) (hm2 : ¬ m ≤ (-10000)) (h : oc_R v c t m a3 a6 a7 a8 a9)
    (H : ∀ (k : Nat) (ck : Int32) (b3 b4 b5 b6 b7 b8 b9 : Nat → Int32), k < 5 → oc_R v c t m b3 b6 b7 b8 b9 → oc_sl k t m b6 b7 b8 b9 → post (nI k) (sz, ck, a1, a2, b3, b4, b5, b6, b7, b8, b9)) : wpX_slotFor post (sz, ck, a1, a2, a3, a4, a5, a6, a7, a8, a9) (nI v) := by
  obtain ⟨h30, hs, hr⟩ := h
  unfold wpX_slotFor
  dsimp only
  refine nm_e ⟨6, ?_⟩
  by_cases z : v = 0
  · subst z
    refine oc_12_hit (i := 0) (by omega) h30 (fun b5 => H 0 _ _ _ _ _ _ _ _ (by omega) ⟨h30, hs, hr⟩ ?_)
    rcases ht with ⟨y1, y2⟩ | ⟨y1, y2⟩
    · rw [y2, oc_sn_0 y1]
      exact hs
    · exact oc_sl_e y1 y2 hs
  · have n0 : ¬ a3 0 = nI v := by
      rw [h30, ← nI_0, nI_eq (by omega) (by omega)]
      omega
    refine oc_12_sk (i := 0) (by omega) n0 ?_
    rcases hr with hr | ⟨y1, y2⟩
    · have nm : ∀ j, 1 ≤ j → j < 5 → ¬ a3 j = nI v := by
        intro j j1 j2 q
        rw [hr j j1 j2] at q
        have q2 := congrArg Int32.toInt q
        rw [nI_toInt (by omega), show (-1 : Int32).toInt = -1 by decide] at q2
        omega
      refine oc_12_sk (i := 1) (by omega) (nm 1 (by omega) (by omega)) (oc_12_sk (i := 2) (by omega) (nm 2 (by omega) (by omega)) (oc_12_sk (i := 3) (by omega) (nm 3 (by omega) (by omega)) (oc_12_sk (i := 4) (by omega) (nm 4 (by omega) (by omega)) (oc_12_end ⟨5, ?_⟩))))
      refine oc_49_sk (i := 1) (by omega) (hr 1 (by omega) (by omega)) (oc_49_sk (i := 2) (by omega) (hr 2 (by omega) (by omega)) (oc_49_sk (i := 3) (by omega) (hr 3 (by omega) (by omega)) (oc_49_sk (i := 4) (by omega) (hr 4 (by omega) (by omega)) (oc_49_end ⟨5, ?_⟩))))
      have r1 := hr 1 (by omega) (by omega)
      refine oc_130_sk (i := 1) (by omega) (by omega) r1 r1 (oc_130_sk (i := 2) (by omega) (by omega) r1 (hr 2 (by omega) (by omega)) (oc_130_sk (i := 3) (by omega) (by omega) r1 (hr 3 (by omega) (by omega)) (oc_130_sk (i := 4) (by omega) (by omega) r1 (hr 4 (by omega) (by omega)) (oc_130_end ?_))))
      exact oc_workOut hv ht hm1 hm2 h30 hs (fun b3 b4 b5 b6 b7 b8 b9 g0 g1 g2 g3 => H 1 _ _ _ _ _ _ _ _ (by omega) ⟨g0, g2, Or.inr ⟨g1, g3⟩⟩ g3)
    · exact oc_12_hit (i := 1) (by omega) y1 (fun b5 => H 1 _ _ _ _ _ _ _ _ (by omega) ⟨h30, hs, Or.inr ⟨y1, y2⟩⟩ y2)
end
section
/-- f is the flag 'x is one of 0 .. N - 1' -/
def oc_fl (x : Int32) (N : Nat) (f : Int32) : Prop := f = 0 ∧ (x < 0 ∨ nI N ≤ x) ∨ f = 1 ∧ ∃ j, j < N ∧ x = nI j
theorem oc_fl0 {x : Int32} {N : Nat} (h : x < 0 ∨ nI N ≤ x) : oc_fl x N 0 := Or.inl ⟨rfl, h⟩
theorem oc_fl1 {j N : Nat} (h : j < N) : oc_fl (nI j) N 1 := Or.inr ⟨rfl, j, h, rfl⟩
theorem oc_isView {post : Int32 → Prop} {x f : Int32} (h : oc_fl x 48 f) (H : post f) : wpX_isView post () x := by
  unfold wpX_isView
  rcases h with ⟨rfl, h | h⟩ | ⟨rfl, j, hj, rfl⟩
  · exact br_t h H
  · exact br_c (fun _ => H) (fun _ => br_t h H)
  · exact br_f (nI_pos (by omega)) (br_f (nI_ge (b := 48) hj (by decide)) H)
theorem oc_isCell {post : Int32 → Prop} {x f : Int32} (h : oc_fl x 192 f) (H : post f) : wpX_isCell post () x := by
  unfold wpX_isCell
  rcases h with ⟨rfl, h | h⟩ | ⟨rfl, j, hj, rfl⟩
  · exact br_t h H
  · exact br_c (fun _ => H) (fun _ => br_t h H)
  · exact br_f (nI_pos (by omega)) (br_f (nI_ge (b := 192) hj (by decide)) H)
theorem oc_isMeasure0 {post : Int32 → Prop} {x : Int32} (h : x < (-1000) ∨ 1000 < x) (H : post 0) : wpX_isMeasure post () x := by
  unfold wpX_isMeasure
  rcases h with h | h
  · exact br_t h H
  · exact br_c (fun _ => H) (fun _ => br_t h H)
theorem oc_isMeasure1 {post : Int32 → Prop} {x : Int32} (h1 : ¬ x < (-1000)) (h2 : ¬ 1000 < x) (H : post 1) : wpX_isMeasure post () x := by
  unfold wpX_isMeasure
  exact br_f h1 (br_f h2 H)
theorem oc_hi {m : Int32} (h : ¬ 1000 < m) : ¬ 10000 ≤ m := by
  rw [Int32.lt_iff_toInt_lt, show (1000 : Int32).toInt = 1000 by decide] at h
  rw [Int32.le_iff_toInt_le, show (10000 : Int32).toInt = 10000 by decide]
  omega
theorem oc_lo {m : Int32} (h : ¬ m < (-1000)) : ¬ m ≤ (-10000) := by
  rw [Int32.lt_iff_toInt_lt, show (-1000 : Int32).toInt = -1000 by decide] at h
  rw [Int32.le_iff_toInt_le, show (-10000 : Int32).toInt = -10000 by decide]
  omega
/-! put -/
theorem oc_put_c {post : Int32 → St2 → Prop} {sz ck : Int32} {a1 a2 a3 a4 a5 a6 a7 a8 a9 : Nat → Int32} {x y : Int32} (hx : oc_fl x 192 0) (H : post (-1) (sz, ck, a1, a2, a3, a4, a5, a6, a7, a8, a9)) : wpX_put post (sz, ck, a1, a2, a3, a4, a5, a6, a7, a8, a9) x y := by
  unfold wpX_put
  dsimp only
  exact oc_isCell hx (br_t rfl H)
theorem oc_put_m {post : Int32 → St2 → Prop} {sz ck : Int32} {a1 a2 a3 a4 a5 a6 a7 a8 a9 : Nat → Int32} {x y : Int32} (hx : oc_fl x 192 1) (hy : y < (-1000) ∨ 1000 < y) (H : post (-2) (sz, ck, a1, a2, a3, a4, a5, a6, a7, a8, a9)) : wpX_put post (sz, ck, a1, a2, a3, a4, a5, a6, a7, a8, a9) x y := by
  unfold wpX_put
  dsimp only
  exact oc_isCell hx (br_f (by decide) (oc_isMeasure0 hy (br_t rfl H)))
theorem oc_put_g {post : Int32 → St2 → Prop} {ck : Int32} {a1 a2 a3 a4 a5 a6 a7 a8 a9 : Nat → Int32} {p e : Nat} {m n : Int32} (hp : p < 192) (he : 192 ≤ e) (h1 : ¬ m < (-1000)) (h2 : ¬ 1000 < m) (h30 : a3 0 = 0) (h3 : ∀ j, 1 ≤ j → j < 5 → a3 j = (-1)) (h : oc_sl 0 e n a6 a7 a8 a9)
    (H : ∀ b1 b2 b4 b6 b7 b8 b9 : Nat → Int32, b1 0 = nI p → oc_sl 0 p m b6 b7 b8 b9 → post 0 (1, ck, b1, b2, a3, b4, a5, b6, b7, b8, b9)) : wpX_put post (0, ck, a1, a2, a3, a4, a5, a6, a7, a8, a9) (nI p) m := by
  unfold wpX_put
  dsimp only
  refine oc_isCell (oc_fl1 hp) (br_f (by decide) (oc_isMeasure1 h1 h2 (br_f (by decide) (br_f (by decide) (oc_add hp he (oc_hi h2) (oc_lo h1) h30 h3 h (fun b1 b2 b4 b6 b7 b8 b9 g1 g2 => ?_))))))
  dsimp only
  rw [show (1 : Int32) - 1 = 0 by decide]
  exact H b1 b2 b4 b6 b7 b8 b9 g1 g2
/-! cellOf(view, 0) -/
theorem oc_cellOf_b {post : Int32 → Prop} {sz ck : Int32} {a1 a2 a3 a4 a5 a6 a7 a8 a9 : Nat → Int32} {x : Int32} (hx : oc_fl x 48 0) (H : post (-1)) : wpX_cellOf post (sz, ck, a1, a2, a3, a4, a5, a6, a7, a8, a9) x 0 := by
  unfold wpX_cellOf
  dsimp only
  exact oc_isView hx (br_t rfl H)
theorem oc_cellOf_o {post : Int32 → Prop} {ck : Int32} {a1 a2 a3 a4 a5 a6 a7 a8 a9 : Nat → Int32} {x : Int32} (hx : oc_fl x 48 1) (H : post (-2)) : wpX_cellOf post (0, ck, a1, a2, a3, a4, a5, a6, a7, a8, a9) x 0 := by
  unfold wpX_cellOf
  dsimp only
  refine oc_isView hx (br_f (by decide) ?_)
  unfold wpX_isFact
  dsimp only
  exact br_f (by decide) (br_t (by decide) (br_t rfl H))
theorem oc_cellOf_i {post : Int32 → Prop} {ck : Int32} {a1 a2 a3 a4 a5 a6 a7 a8 a9 : Nat → Int32} {v p : Nat} (hv : v < 48) (hp : p < 192) (h : a1 0 = nI p) (H : post (nI (oc_sn v p))) : wpX_cellOf post (1, ck, a1, a2, a3, a4, a5, a6, a7, a8, a9) (nI v) 0 := by
  unfold wpX_cellOf
  dsimp only
  refine oc_isView (oc_fl1 hv) (br_f (by decide) ?_)
  unfold wpX_isFact
  dsimp only
  refine br_f (by decide) (br_f (by decide) (br_f (by decide) ⟨pk_in 0 40 (by omega), ?_⟩))
  have e : a1 (0 : Int32).toNatClampNeg = nI p := h
  rw [e]
  exact oc_seenAs hv hp H
/-! the four asks of a cell -/
theorem oc_count_b {post : Int32 → St2 → Prop} {sz ck : Int32} {a1 a2 a3 a4 a5 a6 a7 a8 a9 : Nat → Int32} {x y : Int32} (hx : oc_fl x 48 0) (H : post (-1) (sz, ck, a1, a2, a3, a4, a5, a6, a7, a8, a9)) : wpX_count post (sz, ck, a1, a2, a3, a4, a5, a6, a7, a8, a9) x y := by
  unfold wpX_count
  dsimp only
  exact oc_isView hx (br_t rfl H)
theorem oc_count_k {post : Int32 → St2 → Prop} {sz ck : Int32} {a1 a2 a3 a4 a5 a6 a7 a8 a9 : Nat → Int32} {x y : Int32} (hx : oc_fl x 48 1) (hy : oc_fl y 192 0) (H : post (-2) (sz, ck, a1, a2, a3, a4, a5, a6, a7, a8, a9)) : wpX_count post (sz, ck, a1, a2, a3, a4, a5, a6, a7, a8, a9) x y := by
  unfold wpX_count
  dsimp only
  exact oc_isView hx (br_f (by decide) (oc_isCell hy (br_t rfl H)))
theorem oc_count_g {post : Int32 → St2 → Prop} {sz ck : Int32} {a1 a2 a3 a4 a5 a6 a7 a8 a9 : Nat → Int32} {v q c t : Nat} {m : Int32} (hv : v < 48) (hq : q < 192) (ht : oc_tc v c t) (hm1 : ¬ 10000 ≤ m) (hm2 : ¬ m ≤ (-10000)) (h : oc_R v c t m a3 a6 a7 a8 a9)
    (H : ∀ (ck : Int32) (b3 b4 b5 b6 b7 b8 b9 : Nat → Int32), oc_R v c t m b3 b6 b7 b8 b9 → post (if q = t then 1 else 0) (sz, ck, a1, a2, b3, b4, b5, b6, b7, b8, b9)) : wpX_count post (sz, ck, a1, a2, a3, a4, a5, a6, a7, a8, a9) (nI v) (nI q) := by
  unfold wpX_count
  dsimp only
  refine oc_isView (oc_fl1 hv) (br_f (by decide) (oc_isCell (oc_fl1 hq) (br_f (by decide) (oc_slotFor hv ht hm1 hm2 h (fun k ck b3 b4 b5 b6 b7 b8 b9 hk hr hs => ?_)))))
  dsimp only
  rw [oc_at, nI_clamp (by omega), hs.1 q hq]
  exact ⟨pk_in (192 * k + q) 960 (by omega), H _ _ _ _ _ _ _ _ hr⟩
theorem oc_sum_b {post : Int32 → St2 → Prop} {sz ck : Int32} {a1 a2 a3 a4 a5 a6 a7 a8 a9 : Nat → Int32} {x y : Int32} (hx : oc_fl x 48 0) (H : post 0 (sz, ck, a1, a2, a3, a4, a5, a6, a7, a8, a9)) : wpX_sum post (sz, ck, a1, a2, a3, a4, a5, a6, a7, a8, a9) x y := by
  unfold wpX_sum
  dsimp only
  exact oc_isView hx (br_t rfl H)
theorem oc_sum_k {post : Int32 → St2 → Prop} {sz ck : Int32} {a1 a2 a3 a4 a5 a6 a7 a8 a9 : Nat → Int32} {x y : Int32} (hx : oc_fl x 48 1) (hy : oc_fl y 192 0) (H : post 0 (sz, ck, a1, a2, a3, a4, a5, a6, a7, a8, a9)) : wpX_sum post (sz, ck, a1, a2, a3, a4, a5, a6, a7, a8, a9) x y := by
  unfold wpX_sum
  dsimp only
  exact oc_isView hx (br_f (by decide) (oc_isCell hy (br_t rfl H)))
theorem oc_sum_g {post : Int32 → St2 → Prop} {sz ck : Int32} {a1 a2 a3 a4 a5 a6 a7 a8 a9 : Nat → Int32} {v q c t : Nat} {m : Int32} (hv : v < 48) (hq : q < 192) (ht : oc_tc v c t) (hm1 : ¬ 10000 ≤ m) (hm2 : ¬ m ≤ (-10000)) (h : oc_R v c t m a3 a6 a7 a8 a9)
    (H : ∀ (ck : Int32) (b3 b4 b5 b6 b7 b8 b9 : Nat → Int32), oc_R v c t m b3 b6 b7 b8 b9 → post (if q = t then m else 0) (sz, ck, a1, a2, b3, b4, b5, b6, b7, b8, b9)) : wpX_sum post (sz, ck, a1, a2, a3, a4, a5, a6, a7, a8, a9) (nI v) (nI q) := by
  unfold wpX_sum
  dsimp only
  refine oc_isView (oc_fl1 hv) (br_f (by decide) (oc_isCell (oc_fl1 hq) (br_f (by decide) (oc_slotFor hv ht hm1 hm2 h (fun k ck b3 b4 b5 b6 b7 b8 b9 hk hr hs => ?_)))))
  dsimp only
  rw [oc_at, nI_clamp (by omega), hs.2.1 q hq]
  exact ⟨pk_in (192 * k + q) 960 (by omega), H _ _ _ _ _ _ _ _ hr⟩
theorem oc_least_b {post : Int32 → St2 → Prop} {sz ck : Int32} {a1 a2 a3 a4 a5 a6 a7 a8 a9 : Nat → Int32} {x y : Int32} (hx : oc_fl x 48 0) (H : post 10000 (sz, ck, a1, a2, a3, a4, a5, a6, a7, a8, a9)) : wpX_least post (sz, ck, a1, a2, a3, a4, a5, a6, a7, a8, a9) x y := by
  unfold wpX_least
  dsimp only
  exact oc_isView hx (br_t rfl H)
theorem oc_least_k {post : Int32 → St2 → Prop} {sz ck : Int32} {a1 a2 a3 a4 a5 a6 a7 a8 a9 : Nat → Int32} {x y : Int32} (hx : oc_fl x 48 1) (hy : oc_fl y 192 0) (H : post 10000 (sz, ck, a1, a2, a3, a4, a5, a6, a7, a8, a9)) : wpX_least post (sz, ck, a1, a2, a3, a4, a5, a6, a7, a8, a9) x y := by
  unfold wpX_least
  dsimp only
  exact oc_isView hx (br_f (by decide) (oc_isCell hy (br_t rfl H)))
theorem oc_least_g {post : Int32 → St2 → Prop} {sz ck : Int32} {a1 a2 a3 a4 a5 a6 a7 a8 a9 : Nat → Int32} {v q c t : Nat} {m : Int32} (hv : v < 48) (hq : q < 192) (ht : oc_tc v c t) (hm1 : ¬ 10000 ≤ m) (hm2 : ¬ m ≤ (-10000)) (h : oc_R v c t m a3 a6 a7 a8 a9)
    (H : ∀ (ck : Int32) (b3 b4 b5 b6 b7 b8 b9 : Nat → Int32), oc_R v c t m b3 b6 b7 b8 b9 → post (if q = t then m else 10000) (sz, ck, a1, a2, b3, b4, b5, b6, b7, b8, b9)) : wpX_least post (sz, ck, a1, a2, a3, a4, a5, a6, a7, a8, a9) (nI v) (nI q) := by
  unfold wpX_least
  dsimp only
  refine oc_isView (oc_fl1 hv) (br_f (by decide) (oc_isCell (oc_fl1 hq) (br_f (by decide) (oc_slotFor hv ht hm1 hm2 h (fun k ck b3 b4 b5 b6 b7 b8 b9 hk hr hs => ?_)))))
  dsimp only
  rw [oc_at, nI_clamp (by omega), hs.2.2.1 q hq]
  exact ⟨pk_in (192 * k + q) 960 (by omega), H _ _ _ _ _ _ _ _ hr⟩
theorem oc_most_b {post : Int32 → St2 → Prop} {sz ck : Int32} {a1 a2 a3 a4 a5 a6 a7 a8 a9 : Nat → Int32} {x y : Int32} (hx : oc_fl x 48 0) (H : post (-10000) (sz, ck, a1, a2, a3, a4, a5, a6, a7, a8, a9)) : wpX_most post (sz, ck, a1, a2, a3, a4, a5, a6, a7, a8, a9) x y := by
  unfold wpX_most
  dsimp only
  exact oc_isView hx (br_t rfl H)
theorem oc_most_k {post : Int32 → St2 → Prop} {sz ck : Int32} {a1 a2 a3 a4 a5 a6 a7 a8 a9 : Nat → Int32} {x y : Int32} (hx : oc_fl x 48 1) (hy : oc_fl y 192 0) (H : post (-10000) (sz, ck, a1, a2, a3, a4, a5, a6, a7, a8, a9)) : wpX_most post (sz, ck, a1, a2, a3, a4, a5, a6, a7, a8, a9) x y := by
  unfold wpX_most
  dsimp only
  exact oc_isView hx (br_f (by decide) (oc_isCell hy (br_t rfl H)))
theorem oc_most_g {post : Int32 → St2 → Prop} {sz ck : Int32} {a1 a2 a3 a4 a5 a6 a7 a8 a9 : Nat → Int32} {v q c t : Nat} {m : Int32} (hv : v < 48) (hq : q < 192) (ht : oc_tc v c t) (hm1 : ¬ 10000 ≤ m) (hm2 : ¬ m ≤ (-10000)) (h : oc_R v c t m a3 a6 a7 a8 a9)
    (H : ∀ (ck : Int32) (b3 b4 b5 b6 b7 b8 b9 : Nat → Int32), oc_R v c t m b3 b6 b7 b8 b9 → post (if q = t then m else (-10000)) (sz, ck, a1, a2, b3, b4, b5, b6, b7, b8, b9)) : wpX_most post (sz, ck, a1, a2, a3, a4, a5, a6, a7, a8, a9) (nI v) (nI q) := by
  unfold wpX_most
  dsimp only
  refine oc_isView (oc_fl1 hv) (br_f (by decide) (oc_isCell (oc_fl1 hq) (br_f (by decide) (oc_slotFor hv ht hm1 hm2 h (fun k ck b3 b4 b5 b6 b7 b8 b9 hk hr hs => ?_)))))
  dsimp only
  rw [oc_at, nI_clamp (by omega), hs.2.2.2 q hq]
  exact ⟨pk_in (192 * k + q) 960 (by omega), H _ _ _ _ _ _ _ _ hr⟩
end
section
def oc_P (r : Int32) (_ : St0) : Prop := r = 1
/-! the last checks -/
theorem oc_fin {mc ms kc ks : Nat} {x1 z r l w : Int32} (h : z = 0 ∧ r = 0 ∧ l = 10000 ∧ w = (-10000) ∨ z = 1 ∧ r = x1 ∧ l = x1 ∧ w = x1) : ((z = 0 → wL_lawOf_291 oc_P mc ms x1 z l w 0 r kc ks) ∧ (¬ z = 0 → wL_lawOf_291 oc_P mc ms x1 z l w x1 r kc ks)) := by
  rcases h with ⟨rfl, rfl, rfl, rfl⟩ | ⟨rfl, rfl, rfl, rfl⟩
  · refine br_t rfl ?_
    unfold wL_lawOf_291 wL_lawOf_308 wL_lawOf_325
    exact br_t rfl (br_t rfl (br_t rfl (br_t rfl (br_t rfl rfl))))
  · refine br_f (by decide) ?_
    unfold wL_lawOf_291 wL_lawOf_308 wL_lawOf_325
    exact br_t rfl (br_f (by decide) (br_t rfl (br_f (by decide) (br_t rfl rfl))))
theorem oc_250_b {mc ms kc ks : Nat} {x1 x2 x3 : Int32} {sz ck : Int32} {a1 a2 a3 a4 a5 a6 a7 a8 a9 : Nat → Int32} (hx : oc_fl x2 48 0) : wL_lawOf_250 oc_P mc ms x1 x2 x3 0 kc ks sz ck a1 a2 a3 a4 a5 a6 a7 a8 a9 := by
  unfold wL_lawOf_250
  exact oc_sum_b hx (oc_least_b hx (oc_most_b hx (oc_fin (Or.inl ⟨rfl, rfl, rfl, rfl⟩))))
theorem oc_250_k {mc ms kc ks : Nat} {x1 x2 x3 : Int32} {sz ck : Int32} {a1 a2 a3 a4 a5 a6 a7 a8 a9 : Nat → Int32} (hx : oc_fl x2 48 1) (hy : oc_fl x3 192 0) : wL_lawOf_250 oc_P mc ms x1 x2 x3 0 kc ks sz ck a1 a2 a3 a4 a5 a6 a7 a8 a9 := by
  unfold wL_lawOf_250
  exact oc_sum_k hx hy (oc_least_k hx hy (oc_most_k hx hy (oc_fin (Or.inl ⟨rfl, rfl, rfl, rfl⟩))))
theorem oc_250_g {mc ms kc ks : Nat} {x1 z : Int32} {sz ck : Int32} {a1 a2 a3 a4 a5 a6 a7 a8 a9 : Nat → Int32} {v q c t : Nat} {m : Int32} (hv : v < 48) (hq : q < 192) (ht : oc_tc v c t) (hm1 : ¬ 10000 ≤ m) (hm2 : ¬ m ≤ (-10000)) (h : oc_R v c t m a3 a6 a7 a8 a9) (hz : z = 0 ∧ q ≠ t ∨ z = 1 ∧ q = t ∧ m = x1) : wL_lawOf_250 oc_P mc ms x1 (nI v) (nI q) z kc ks sz ck a1 a2 a3 a4 a5 a6 a7 a8 a9 := by
  unfold wL_lawOf_250
  refine oc_sum_g hv hq ht hm1 hm2 h (fun ck b3 b4 b5 b6 b7 b8 b9 h => oc_least_g hv hq ht hm1 hm2 h (fun ck b3 b4 b5 b6 b7 b8 b9 h => oc_most_g hv hq ht hm1 hm2 h (fun ck b3 b4 b5 b6 b7 b8 b9 h => oc_fin ?_)))
  rcases hz with ⟨e, n⟩ | ⟨e, n, em⟩
  · rw [if_neg n, if_neg n, if_neg n]
    exact Or.inl ⟨e, rfl, rfl, rfl⟩
  · rw [if_pos n, if_pos n, if_pos n]
    exact Or.inr ⟨e, em, em, em⟩
/-! from cellOf on -/
theorem oc_144_b {mc ms kc ks : Nat} {x1 x2 x3 x5 x7 z : Int32} {sz ck : Int32} {a1 a2 a3 a4 a5 a6 a7 a8 a9 : Nat → Int32} (hx : oc_fl x2 48 0) : wL_lawOf_144 oc_P mc ms x1 x2 x3 x5 0 x7 z kc ks sz ck a1 a2 a3 a4 a5 a6 a7 a8 a9 := by
  unfold wL_lawOf_144
  refine oc_cellOf_b hx (br_t rfl ?_)
  unfold wL_lawOf_168
  refine br_t rfl (oc_count_b hx (br_t rfl ?_))
  unfold wL_lawOf_219
  exact br_t rfl (br_t rfl (oc_250_b hx))
theorem oc_144_k {mc ms kc ks : Nat} {x1 x2 x3 x5 z : Int32} {sz ck : Int32} {a1 a2 a3 a4 a5 a6 a7 a8 a9 : Nat → Int32} (hx : oc_fl x2 48 1) (hy : oc_fl x3 192 0) (hc : ∀ ψ : Int32 → Prop, ψ z → wpX_cellOf ψ (sz, ck, a1, a2, a3, a4, a5, a6, a7, a8, a9) x2 0) : wL_lawOf_144 oc_P mc ms x1 x2 x3 x5 1 0 z kc ks sz ck a1 a2 a3 a4 a5 a6 a7 a8 a9 := by
  unfold wL_lawOf_144
  refine hc _ (br_f (by decide) ?_)
  unfold wL_lawOf_168
  refine br_t rfl (oc_count_k hx hy (br_f (by decide) (br_t rfl ?_)))
  unfold wL_lawOf_219
  exact br_t rfl (br_f (by decide) (br_t rfl (oc_250_k hx hy)))
theorem oc_144_o {mc ms kc ks : Nat} {x1 z : Int32} {sz ck : Int32} {a1 a2 a3 a4 a5 a6 a7 a8 a9 : Nat → Int32} {v q c t : Nat} {m : Int32} (hv : v < 48) (hq : q < 192) (ht : oc_tc v c t) (hm1 : ¬ 10000 ≤ m) (hm2 : ¬ m ≤ (-10000)) (h : oc_R v c t m a3 a6 a7 a8 a9) (hn : q ≠ t) (hc : ∀ ψ : Int32 → Prop, ψ z → wpX_cellOf ψ (sz, ck, a1, a2, a3, a4, a5, a6, a7, a8, a9) (nI v) 0) : wL_lawOf_144 oc_P mc ms x1 (nI v) (nI q) 0 1 1 z kc ks sz ck a1 a2 a3 a4 a5 a6 a7 a8 a9 := by
  unfold wL_lawOf_144
  refine hc _ (br_f (by decide) ?_)
  unfold wL_lawOf_168
  refine br_t rfl (oc_count_g hv hq ht hm1 hm2 h (fun ck b3 b4 b5 b6 b7 b8 b9 h => br_f (by decide) (br_f (by decide) (br_t rfl ?_))))
  rw [if_neg hn]
  unfold wL_lawOf_218 wL_lawOf_219
  exact br_t rfl (br_f (by decide) (br_f (by decide) (br_t rfl (oc_250_g hv hq ht hm1 hm2 h (Or.inl ⟨rfl, hn⟩)))))
theorem oc_144_i {mc ms kc ks : Nat} {x1 : Int32} {sz ck : Int32} {a1 a2 a3 a4 a5 a6 a7 a8 a9 : Nat → Int32} {v q c t : Nat} (hv : v < 48) (hq : q < 192) (htl : t < 192) (ht : oc_tc v c t) (hm1 : ¬ 10000 ≤ x1) (hm2 : ¬ x1 ≤ (-10000)) (h : oc_R v c t x1 a3 a6 a7 a8 a9) (hc : ∀ ψ : Int32 → Prop, ψ (nI t) → wpX_cellOf ψ (sz, ck, a1, a2, a3, a4, a5, a6, a7, a8, a9) (nI v) 0) : wL_lawOf_144 oc_P mc ms x1 (nI v) (nI q) 1 1 1 (nI t) kc ks sz ck a1 a2 a3 a4 a5 a6 a7 a8 a9 := by
  unfold wL_lawOf_144
  refine hc _ (br_f (by decide) ?_)
  unfold wL_lawOf_168
  refine br_t rfl (oc_count_g hv hq ht hm1 hm2 h (fun ck b3 b4 b5 b6 b7 b8 b9 h => br_f (by decide) (br_f (by decide) (br_f (by decide) (pk_eq q t (fun e => ?_) (fun e => ?_))))))
  · rw [if_pos e]
    unfold wL_lawOf_219
    exact br_t rfl (br_f (by decide) (br_f (by decide) (br_f (by decide) (br_t (by rw [e]) (oc_250_g hv hq ht hm1 hm2 h (Or.inr ⟨rfl, e, rfl⟩))))))
  · rw [if_neg e]
    unfold wL_lawOf_218 wL_lawOf_219
    exact br_t rfl (br_f (by decide) (br_f (by decide) (br_f (by decide) (pk_eq q t (fun y => absurd y e) (fun _ => oc_250_g hv hq ht hm1 hm2 h (Or.inl ⟨rfl, e⟩))))))
/-! from put's answer on: nothing was put, a fact was put -/
theorem oc_119_o {mc ms kc ks : Nat} {x0 x1 x2 x3 x6 x7 z ck : Int32} {a1 a2 a3 a4 a5 a6 a7 a8 a9 : Nat → Int32} (h6 : oc_fl x2 48 x6) (h7 : oc_fl x3 192 x7) (h30 : a3 0 = 0) (h3 : ∀ j, 1 ≤ j → j < 5 → a3 j = (-1)) (h : oc_sl 0 192 0 a6 a7 a8 a9) : wL_lawOf_119 oc_P mc ms x0 x1 x2 x3 0 x6 x7 z z kc ks 0 ck a1 a2 a3 a4 a5 a6 a7 a8 a9 := by
  unfold wL_lawOf_119 wL_lawOf_142
  refine br_t rfl (br_t rfl ?_)
  rcases h6 with ⟨rfl, h6⟩ | ⟨rfl, v, hv, rfl⟩
  · exact oc_144_b (oc_fl0 h6)
  · rcases h7 with ⟨rfl, h7⟩ | ⟨rfl, q, hq, rfl⟩
    · exact oc_144_k (oc_fl1 hv) (oc_fl0 h7) (fun ψ k => oc_cellOf_o (oc_fl1 hv) k)
    · exact oc_144_o (c := 192) (t := 192) (m := 0) hv hq (Or.inr ⟨by omega, by omega⟩) (by decide) (by decide) ⟨h30, h, Or.inl h3⟩ (by omega) (fun ψ k => oc_cellOf_o (oc_fl1 hv) k)
theorem oc_119_i {mc ms kc ks : Nat} {x1 x2 x3 x6 x7 z ck : Int32} {a1 a2 a3 a4 a5 a6 a7 a8 a9 : Nat → Int32} {p : Nat} (hp : p < 192) (h1 : ¬ x1 < (-1000)) (h2 : ¬ 1000 < x1) (h6 : oc_fl x2 48 x6) (h7 : oc_fl x3 192 x7) (ha : a1 0 = nI p) (h30 : a3 0 = 0) (h3 : ∀ j, 1 ≤ j → j < 5 → a3 j = (-1)) (h : oc_sl 0 p x1 a6 a7 a8 a9) : wL_lawOf_119 oc_P mc ms (nI p) x1 x2 x3 1 x6 x7 z z kc ks 1 ck a1 a2 a3 a4 a5 a6 a7 a8 a9 := by
  unfold wL_lawOf_119 wL_lawOf_142
  refine br_t rfl (br_f (by decide) ?_)
  rcases h6 with ⟨rfl, h6⟩ | ⟨rfl, v, hv, rfl⟩
  · exact br_t rfl (oc_144_b (oc_fl0 h6))
  · refine br_f (by decide) (oc_seen hv hp ?_)
    rcases h7 with ⟨rfl, h7⟩ | ⟨rfl, q, hq, rfl⟩
    · exact oc_144_k (oc_fl1 hv) (oc_fl0 h7) (fun ψ k => oc_cellOf_i hv hp ha k)
    · exact oc_144_i (c := p) hv hq (oc_sn_lt hp) (Or.inl ⟨hp, rfl⟩) (oc_hi h2) (oc_lo h1) ⟨h30, h, Or.inl h3⟩ (fun ψ k => oc_cellOf_i hv hp ha k)
/-! the object is made, the fact is put -/
theorem oc_77 {x0 x1 x2 x3 x4 x5 x6 x7 : Int32} (h4 : oc_fl x0 192 x4) (h5 : x5 = 0 ∧ (x4 = 0 ∨ x1 < (-1000) ∨ 1000 < x1) ∨ x5 = 1 ∧ x4 = 1 ∧ ¬ x1 < (-1000) ∧ ¬ 1000 < x1) (h6 : oc_fl x2 48 x6) (h7 : oc_fl x3 192 x7) : wL_lawOf_77 oc_P 10 3946 x0 x1 x2 x3 x4 x5 x6 x7 0 0 := by
  unfold wL_lawOf_77
  refine ⟨by omega, by omega, 9, 3935, by omega, by omega, oc_init (fun a1 a2 a3 a4 a5 a6 a7 a8 a9 h30 h3 h => ?_)⟩
  dsimp only
  rcases h4 with ⟨rfl, h4⟩ | ⟨rfl, p, hp, rfl⟩
  · rcases h5 with ⟨rfl, h5⟩ | ⟨rfl, e, h5⟩
    · exact oc_put_c (oc_fl0 h4) (br_t rfl (oc_119_o h6 h7 h30 h3 h))
    · exact absurd e (by decide)
  · rcases h5 with ⟨rfl, h5⟩ | ⟨rfl, e, h51, h52⟩
    · have h5' : x1 < (-1000) ∨ 1000 < x1 := by
        rcases h5 with e | h5
        · exact absurd e (by decide)
        · exact h5
      exact oc_put_m (oc_fl1 hp) h5' (br_f (by decide) (br_t rfl (oc_119_o h6 h7 h30 h3 h)))
    · exact oc_put_g hp (Nat.le_refl 192) h51 h52 h30 h3 h (fun b1 b2 b4 b6 b7 b8 b9 g1 g2 => br_f (by decide) (br_f (by decide) (oc_119_i hp h51 h52 h6 h7 g1 h30 h3 g2)))
/-! the flags -/
theorem oc_flag {A : Int32 → Prop} {x M : Int32} (N : Nat) (hN : N < 1000) (hM : M = nI N) (H : ∀ f, oc_fl x (N + 1) f → A f) : ((x < 0 → A 0) ∧ (¬ x < 0 → ((M < x → A 0) ∧ (¬ M < x → A 1)))) := by
  subst hM
  refine br_c (fun h => H 0 (oc_fl0 (Or.inl h))) (fun h => ?_)
  obtain ⟨j, hj, rfl⟩ := nI_of h
  refine pk_lt N j (fun z => H 0 (oc_fl0 (Or.inr (nI_le z hj)))) (fun z => H 1 (oc_fl1 (by omega)))
theorem oc_lawOf (x0 x1 x2 x3 : Int32) : wpL_lawOf oc_P 10 3946 () x0 x1 x2 x3 := by
  unfold wpL_lawOf wL_lawOf_15
  refine oc_flag (A := fun f => wL_lawOf_16 oc_P 10 3946 x0 x1 x2 x3 f 0 0) 191 (by omega) rfl (fun x4 h4 => ?_)
  have k5 : ∀ x5, (x5 = 0 ∧ (x4 = 0 ∨ x1 < (-1000) ∨ 1000 < x1) ∨ x5 = 1 ∧ x4 = 1 ∧ ¬ x1 < (-1000) ∧ ¬ 1000 < x1) → wL_lawOf_42 oc_P 10 3946 x0 x1 x2 x3 x4 x5 0 0 := by
    intro x5 h5
    unfold wL_lawOf_42 wL_lawOf_58
    refine oc_flag (A := fun f => wL_lawOf_59 oc_P 10 3946 x0 x1 x2 x3 x4 x5 f 0 0) 47 (by omega) rfl (fun x6 h6 => ?_)
    show wL_lawOf_59 oc_P 10 3946 x0 x1 x2 x3 x4 x5 x6 0 0
    unfold wL_lawOf_59 wL_lawOf_76
    refine oc_flag (A := fun f => wL_lawOf_77 oc_P 10 3946 x0 x1 x2 x3 x4 x5 x6 f 0 0) 191 (by omega) rfl (fun x7 h7 => ?_)
    exact oc_77 h4 h5 h6 h7
  show wL_lawOf_16 oc_P 10 3946 x0 x1 x2 x3 x4 0 0
  unfold wL_lawOf_16 wL_lawOf_41
  refine br_c (fun e => k5 0 (Or.inl ⟨rfl, Or.inl e⟩)) (fun e => br_c (fun g => k5 0 (Or.inl ⟨rfl, Or.inr (Or.inl g)⟩)) (fun g => br_c (fun g2 => k5 0 (Or.inl ⟨rfl, Or.inr (Or.inr g2)⟩)) (fun g2 => k5 1 (Or.inr ⟨rfl, ?_, g, g2⟩))))
  rcases h4 with ⟨e4, _⟩ | ⟨e4, _⟩
  · exact absurd e4 e
  · exact e4
theorem oc_cell {post : Int32 → Prop} {L : Nat} {xs : Nat → Int32} (k : Nat) (hk : k < 4) (hL : L ≤ 4) (H : ∀ x, post x) : wpL_cellAt post L xs () (nI k) := by
  unfold wpL_cellAt
  exact pk_le L k (fun _ => H 0) (fun z => ⟨pk_in k L z, H _⟩)
theorem i_vc (xs : Nat → Int32) (L : Nat) (hL : L ≤ 4) : wpL_law (fun r => r = 1) L xs := by
  unfold wpL_law
  exact oc_cell 0 (by omega) hL (fun x0 => oc_cell 1 (by omega) hL (fun x1 => oc_cell 2 (by omega) hL (fun x2 => oc_cell 3 (by omega) hL (fun x3 => ⟨10, 3946, by omega, by omega, oc_lawOf x0 x1 x2 x3⟩))))
end
