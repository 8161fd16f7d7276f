section
theorem pk_us {f : Nat → Int32} {k : Nat} {x : Int32} : upd f k x k = x := if_pos rfl
theorem pk_un {f : Nat → Int32} {k j : Nat} {x : Int32} (h : j ≠ k) : upd f k x j = f j := if_neg h
theorem pk_mul (a b : Nat) : nI a * nI b = nI (a * b) := (Int32.ofNat_mul a b).symm
theorem pk_div {a d : Nat} (ha : a < 2 ^ 31) (h0 : 0 < d) (hd : d < 2 ^ 31) : nI a / nI d = nI (a / d) := by
  apply Int32.toInt_inj.mp
  rw [lg_idiv_nonneg (by rw [nI_toInt ha]; omega) (by rw [nI_toInt hd]; omega), nI_toInt ha, nI_toInt hd, nI_toInt (Nat.lt_of_le_of_lt (Nat.div_le_self a d) ha)]
  first | rfl | exact (Int.natCast_ediv _ _).symm
theorem pk_ix (x : Int32) {n : Nat} (hn : n < 2 ^ 31) : x < 0 ∨ nI n ≤ x ∨ ∃ j : Nat, j < n ∧ x = nI j := by
  by_cases h : x < 0
  · exact Or.inl h
  · obtain ⟨j, hj, rfl⟩ := nI_of h
    by_cases h2 : j < n
    · exact Or.inr (Or.inr ⟨j, h2, rfl⟩)
    · exact Or.inr (Or.inl (nI_le (by omega) hj))
theorem pk_le {x y : Int32} {A B : Prop} (a b : Nat) (f : a ≤ b → A) (g : b < a → B) (hx : x = nI a := by rfl) (hy : y = nI b := by rfl) (ha : a < 2 ^ 31 := by omega) (hb : b < 2 ^ 31 := by omega) : (x ≤ y → A) ∧ (¬ x ≤ y → B) := by
  subst hx hy
  rw [nI_leI ha hb]
  exact ⟨f, fun z => g (by omega)⟩
theorem pk_lt {x y : Int32} {A B : Prop} (a b : Nat) (f : a < b → A) (g : b ≤ a → B) (hx : x = nI a := by rfl) (hy : y = nI b := by rfl) (ha : a < 2 ^ 31 := by omega) (hb : b < 2 ^ 31 := by omega) : (x < y → A) ∧ (¬ x < y → B) := by
  subst hx hy
  rw [nI_ltI ha hb]
  exact ⟨f, fun z => g (by omega)⟩
theorem pk_eq {x y : Int32} {A B : Prop} (a b : Nat) (f : a = b → A) (g : a ≠ b → B) (hx : x = nI a := by rfl) (hy : y = nI b := by rfl) (ha : a < 2 ^ 31 := by omega) (hb : b < 2 ^ 31 := by omega) : (x = y → A) ∧ (¬ x = y → B) := by
  subst hx hy
  rw [nI_eq ha hb]
  exact ⟨f, g⟩
theorem pk_in {x : Int32} (n N : Nat) (h : n < N) (hx : x = nI n := by rfl) (hN : N < 2 ^ 31 := by omega) : vp_in x N := by
  subst hx
  exact vp_in_nI h hN
theorem pk_cl {x : Int32} (n : Nat) (hx : x = nI n := by rfl) (h : n < 2 ^ 31 := by omega) : x.toNatClampNeg = n := by
  subst hx
  exact nI_clamp h
theorem cs_e16 (p n : Nat) : (16 : Int32) * nI p + nI n = nI (16 * p + n) := by
  show nI 16 * nI p + nI n = _
  rw [pk_mul, nI_add]
theorem cs_e4 (p n : Nat) : (4 : Int32) * nI p + nI n = nI (4 * p + n) := by
  show nI 4 * nI p + nI n = _
  rw [pk_mul, nI_add]
theorem cs_e4' (p : Nat) : (4 : Int32) * nI p = nI (4 * p) := by
  show nI 4 * nI p = _
  rw [pk_mul]
theorem cs_e44 (p : Nat) : (4 : Int32) * nI p + 4 = nI (4 * p + 4) := cs_e4 p 4
theorem cs_nm1 {n : Nat} (h : n < 2 ^ 31) : nI n ≠ -1 := by
  intro e
  have a := nI_pos h
  rw [e] at a
  exact a (by decide)
theorem cs_inj {a b : Nat} (ha : a < 2 ^ 31) (hb : b < 2 ^ 31) (h : nI a = nI b) : a = b := (nI_eq ha hb).mp h
theorem cs_b0 : vp_nar .boolean 0 = 0 := rfl
theorem cs_b1 : vp_nar .boolean 1 = 1 := rfl
theorem cs_bb {x : Int32} (h : x = 0 ∨ x = 1) : vp_nar .boolean x = x := by
  rcases h with h | h <;> rw [h] <;> rfl
theorem cs_up {a b : Nat → Int32} {x y : Int32} {i j : Nat} (hx : x.toNatClampNeg = i) (hy : y.toNatClampNeg = j) : upd a x.toNatClampNeg (b y.toNatClampNeg) = upd a i (b j) := by rw [hx, hy]
theorem cs_ux {a : Nat → Int32} {x v w : Int32} {i : Nat} (hx : x.toNatClampNeg = i) (hv : v = w) : upd a x.toNatClampNeg v = upd a i w := by rw [hx, hv]
theorem cs_us {a : Nat → Int32} {i : Nat} {x : Int32} (h : a i = x) : upd a i x = a := by
  funext j
  by_cases e : j = i
  · subst e; rw [pk_us, h]
  · rw [pk_un e]
/-- the number of a log, 3 for none -/
def cs_i (m : Nat) : Int32 := if m < 3 then nI m else -1
theorem cs_iN {m : Nat} (h : m < 3) : cs_i m = nI m := if_pos h
theorem cs_iM {m : Nat} (h : ¬ m < 3) : cs_i m = -1 := if_neg h
theorem cs_i3 : cs_i 3 = -1 := if_neg (by decide)
theorem cs_iE {j m : Nat} (hj : j < 3) (hm : m ≤ 3) (h : nI j = cs_i m) : j = m := by
  by_cases e : m < 3
  · rw [cs_iN e] at h
    exact cs_inj (by omega) (by omega) h
  · rw [cs_iM e] at h
    exact absurd h (cs_nm1 (by omega))
theorem cs_iP {m : Nat} (h : m < 3) : ¬ cs_i m < 0 := by rw [cs_iN h]; exact nI_pos (by omega)
theorem cs_iP' {m : Nat} (h : m < 3) : 0 ≤ cs_i m := by rw [cs_iN h]; exact nI_pos' (by omega)
theorem cs_iQ {m : Nat} (h : ¬ m < 3) : cs_i m < 0 := by rw [cs_iM h]; decide
theorem cs_iQ' {m : Nat} (h : ¬ m < 3) : ¬ 0 ≤ cs_i m := by rw [cs_iM h]; decide
/-- four cells copied -/
def cs_4 (a : Nat → Int32) (e : Nat) (b : Nat → Int32) (f : Nat) : Nat → Int32 := upd (upd (upd (upd a (4 * e + 0) (b (4 * f + 0))) (4 * e + 1) (b (4 * f + 1))) (4 * e + 2) (b (4 * f + 2))) (4 * e + 3) (b (4 * f + 3))
theorem cs_4s {a b : Nat → Int32} {e f s : Nat} (h : s < 4) : cs_4 a e b f (4 * e + s) = b (4 * f + s) := by
  have c : s = 0 ∨ s = 1 ∨ s = 2 ∨ s = 3 := by omega
  unfold cs_4
  rcases c with rfl | rfl | rfl | rfl
  · rw [pk_un (by omega), pk_un (by omega), pk_un (by omega), pk_us]
  · rw [pk_un (by omega), pk_un (by omega), pk_us]
  · rw [pk_un (by omega), pk_us]
  · rw [pk_us]
theorem cs_4n {a b : Nat → Int32} {e f i s : Nat} (h : s < 4) (hi : i ≠ e) : cs_4 a e b f (4 * i + s) = a (4 * i + s) := by
  unfold cs_4
  rw [pk_un (by omega), pk_un (by omega), pk_un (by omega), pk_un (by omega)]
abbrev cs_C : Type := Nat → Nat → Int32
/-- the content of a place: 0 version, 1 number, 2 target, 3 stamp, by slot -/
def cs_c (v a b c : Nat → Int32) (i : Nat) : cs_C := fun k s => if s < 4 then (if k = 0 then v i else if k = 1 then a (4 * i + s) else if k = 2 then b (4 * i + s) else c (4 * i + s)) else 0
theorem cs_c0 {v a b c : Nat → Int32} {i s : Nat} (h : s < 4) : cs_c v a b c i 0 s = v i := by simp [cs_c, h]
theorem cs_c1 {v a b c : Nat → Int32} {i s : Nat} (h : s < 4) : cs_c v a b c i 1 s = a (4 * i + s) := by simp [cs_c, h]
theorem cs_c2 {v a b c : Nat → Int32} {i s : Nat} (h : s < 4) : cs_c v a b c i 2 s = b (4 * i + s) := by simp [cs_c, h]
theorem cs_c3 {v a b c : Nat → Int32} {i s : Nat} (h : s < 4) : cs_c v a b c i 3 s = c (4 * i + s) := by simp [cs_c, h]
theorem cs_cS {v a b c w a' b' c' : Nat → Int32} {e f : Nat} : cs_c (upd v e (w f)) (cs_4 a e a' f) (cs_4 b e b' f) (cs_4 c e c' f) e = cs_c w a' b' c' f := by
  funext k s
  unfold cs_c
  by_cases h : s < 4
  · rw [if_pos h, if_pos h, pk_us, cs_4s h, cs_4s h, cs_4s h]
  · rw [if_neg h, if_neg h]
theorem cs_cN {v a b c w a' b' c' : Nat → Int32} {e f i : Nat} (hi : i ≠ e) : cs_c (upd v e (w f)) (cs_4 a e a' f) (cs_4 b e b' f) (cs_4 c e c' f) i = cs_c v a b c i := by
  funext k s
  unfold cs_c
  by_cases h : s < 4
  · rw [if_pos h, if_pos h, pk_un hi, cs_4n h hi, cs_4n h hi, cs_4n h hi]
  · rw [if_neg h, if_neg h]
/-- cells of place i that differ from those of e -/
theorem cs_cU {v a b c v' a' b' c' : Nat → Int32} {i : Nat} (hv : v' i = v i) (ha : ∀ s, s < 4 → a' (4 * i + s) = a (4 * i + s)) (hb : ∀ s, s < 4 → b' (4 * i + s) = b (4 * i + s)) (hc : ∀ s, s < 4 → c' (4 * i + s) = c (4 * i + s)) : cs_c v' a' b' c' i = cs_c v a b c i := by
  funext k s
  unfold cs_c
  by_cases h : s < 4
  · rw [if_pos h, if_pos h, hv, ha s h, hb s h, hc s h]
  · rw [if_neg h, if_neg h]
end
section
/-- log l laid over X -/
def cs_v (l : Nat) (lg : Nat → Int32) (L X : Nat → cs_C) (n : Nat) : cs_C := if l < 3 ∧ lg (16 * l + n) ≠ 0 then L (16 * l + n) else X n
theorem cs_vY {l n : Nat} {lg : Nat → Int32} {L X : Nat → cs_C} (h : l < 3) (h2 : lg (16 * l + n) ≠ 0) : cs_v l lg L X n = L (16 * l + n) := if_pos ⟨h, h2⟩
theorem cs_vN {l n : Nat} {lg : Nat → Int32} {L X : Nat → cs_C} (h : lg (16 * l + n) = 0) : cs_v l lg L X n = X n := if_neg (fun z => z.2 h)
theorem cs_v3 {l n : Nat} {lg : Nat → Int32} {L X : Nat → cs_C} (h : ¬ l < 3) : cs_v l lg L X n = X n := if_neg (fun z => h z.1)
theorem cs_vX {l n : Nat} {lg lg' : Nat → Int32} {L L' X X' : Nat → cs_C} (h : l < 3 → lg' (16 * l + n) = lg (16 * l + n) ∧ L' (16 * l + n) = L (16 * l + n)) (hX : X' n = X n) : cs_v l lg' L' X' n = cs_v l lg L X n := by
  by_cases c : l < 3
  · unfold cs_v
    rw [(h c).1, (h c).2, hX]
  · rw [cs_v3 c, cs_v3 c, hX]
theorem cs_ne {l l' n k : Nat} (hn : n < 16) (hk : k < 16) (h : l' ≠ l ∨ k ≠ n) : 16 * l' + k ≠ 16 * l + n := by omega
/-- an entry of another log or of another node -/
theorem cs_vO {l l' n k : Nat} {x : Int32} {lg : Nat → Int32} {L L' X X' : Nat → cs_C} (hn : n < 16) (hk : k < 16) (h : l' ≠ l ∨ k ≠ n) (hL : ∀ i, i ≠ 16 * l + n → L' i = L i) (hX : X' k = X k) : cs_v l' (upd lg (16 * l + n) x) L' X' k = cs_v l' lg L X k := by
  have e := cs_ne hn hk h
  exact cs_vX (fun _ => ⟨pk_un e, hL _ e⟩) hX
/-- the node level: settled log m, snapshot's log o, present log p; dirty nodes D, frozen nodes Z; the three generations P, O, S -/
def cs_N (m o p : Nat) (H L : Nat → cs_C) (lg : Nat → Int32) (D Z : Nat → Prop) (P O S : Nat → cs_C) : Prop :=
  (m ≤ 3 ∧ o ≤ 3 ∧ p < 3 ∧ p ≠ m ∧ p ≠ o ∧ (o < 3 → o ≠ m)) ∧ ∀ n, n < 16 →
  (Z n → o < 3 ∧ D n ∧ lg (16 * p + n) = 0 ∧ O n = P n) ∧
  (¬ D n → cs_v p lg L (cs_v o lg L (cs_v m lg L H)) n = P n) ∧
  (o < 3 → ¬ Z n → cs_v o lg L (cs_v m lg L H) n = O n) ∧
  cs_v m lg L H n = S n
section
variable {m o p : Nat} {H L : Nat → cs_C} {lg : Nat → Int32} {D Z : Nat → Prop} {P O S : Nat → cs_C}
theorem cs_N_iff {D' Z' : Nat → Prop} (hD : ∀ n, n < 16 → (D' n ↔ D n)) (hZ : ∀ n, n < 16 → (Z' n ↔ Z n)) (I : cs_N m o p H L lg D Z P O S) : cs_N m o p H L lg D' Z' P O S := by
  refine ⟨I.1, fun n hn => ?_⟩
  obtain ⟨a, b, c, d⟩ := I.2 n hn
  refine ⟨fun z => ?_, fun z => b (fun w => z ((hD n hn).mpr w)), fun h z => c h (fun w => z ((hZ n hn).mpr w)), d⟩
  obtain ⟨a1, a2, a3, a4⟩ := a ((hZ n hn).mp z)
  exact ⟨a1, (hD n hn).mpr a2, a3, a4⟩
/-- a frozen node saved to the snapshot's log -/
theorem cs_N_sz (I : cs_N m o p H L lg D Z P O S) {n : Nat} (hn : n < 16) (hz : Z n) {L' : Nat → cs_C} (hL : ∀ i, i ≠ 16 * o + n → L' i = L i) (hc : L' (16 * o + n) = P n) : cs_N m o p H L' (upd lg (16 * o + n) 1) (fun k => k ≠ n ∧ D k) (fun k => k ≠ n ∧ Z k) P O S := by
  obtain ⟨hi, J⟩ := I
  obtain ⟨h1, h2, h3, h4, h5, h6⟩ := hi
  obtain ⟨ho, -, hl, he⟩ := (J n hn).1 hz
  have hom := h6 ho
  refine ⟨⟨h1, h2, h3, h4, h5, h6⟩, fun k hk => ?_⟩
  obtain ⟨a, b, c, d⟩ := J k hk
  have em : cs_v m (upd lg (16 * o + n) 1) L' H k = cs_v m lg L H k := cs_vO hn hk (Or.inl (by omega)) hL rfl
  by_cases e : k = n
  · subst e
    have eo : ∀ X : Nat → cs_C, cs_v o (upd lg (16 * o + k) 1) L' X k = P k := by
      intro X
      rw [cs_vY ho (by rw [pk_us]; decide), hc]
    have ep : ∀ X : Nat → cs_C, cs_v p (upd lg (16 * o + k) 1) L' X k = X k := by
      intro X
      exact cs_vN (by rw [pk_un (cs_ne hn hn (Or.inl h5)), hl])
    refine ⟨fun z => absurd rfl z.1, fun _ => ?_, fun _ _ => ?_, ?_⟩
    · rw [ep, eo]
    · rw [eo, he]
    · rw [em, d]
  · have eo : cs_v o (upd lg (16 * o + n) 1) L' (cs_v m (upd lg (16 * o + n) 1) L' H) k = cs_v o lg L (cs_v m lg L H) k := cs_vO hn hk (Or.inr e) hL em
    refine ⟨fun z => ?_, fun z => ?_, fun h z => ?_, ?_⟩
    · obtain ⟨a1, a2, a3, a4⟩ := a z.2
      exact ⟨a1, ⟨e, a2⟩, by rw [pk_un (cs_ne hn hk (Or.inr e)), a3], a4⟩
    · rw [cs_vO hn hk (Or.inr e) hL eo]
      exact b (fun w => z ⟨e, w⟩)
    · rw [eo]
      exact c h (fun w => z ⟨e, w⟩)
    · rw [em, d]
/-- a dirty node of the present generation saved to the present log -/
theorem cs_N_sp (I : cs_N m o p H L lg D Z P O S) {n : Nat} (hn : n < 16) (hz : ¬ Z n) {L' : Nat → cs_C} (hL : ∀ i, i ≠ 16 * p + n → L' i = L i) (hc : L' (16 * p + n) = P n) : cs_N m o p H L' (upd lg (16 * p + n) 1) (fun k => k ≠ n ∧ D k) Z P O S := by
  obtain ⟨hi, J⟩ := I
  obtain ⟨h1, h2, h3, h4, h5, h6⟩ := hi
  refine ⟨⟨h1, h2, h3, h4, h5, h6⟩, fun k hk => ?_⟩
  obtain ⟨a, b, c, d⟩ := J k hk
  have em : cs_v m (upd lg (16 * p + n) 1) L' H k = cs_v m lg L H k := cs_vO hn hk (Or.inl (by omega)) hL rfl
  have eo : cs_v o (upd lg (16 * p + n) 1) L' (cs_v m (upd lg (16 * p + n) 1) L' H) k = cs_v o lg L (cs_v m lg L H) k := cs_vO hn hk (Or.inl (by omega)) hL em
  by_cases e : k = n
  · subst e
    refine ⟨fun z => absurd z hz, fun _ => ?_, fun h z => ?_, ?_⟩
    · rw [cs_vY h3 (by rw [pk_us]; decide), hc]
    · rw [eo]
      exact c h z
    · rw [em, d]
  · refine ⟨fun z => ?_, fun z => ?_, fun h z => ?_, ?_⟩
    · obtain ⟨a1, a2, a3, a4⟩ := a z
      exact ⟨a1, ⟨e, a2⟩, by rw [pk_un (cs_ne hn hk (Or.inr e)), a3], a4⟩
    · rw [cs_vO hn hk (Or.inr e) hL eo]
      exact b (fun w => z ⟨e, w⟩)
    · rw [eo]
      exact c h z
    · rw [em, d]
/-- a node made dirty -/
theorem cs_N_d (I : cs_N m o p H L lg D Z P O S) (n : Nat) : cs_N m o p H L lg (fun k => k = n ∨ D k) Z P O S := by
  refine ⟨I.1, fun k hk => ?_⟩
  obtain ⟨a, b, c, d⟩ := I.2 k hk
  refine ⟨fun z => ?_, fun z => b (fun w => z (Or.inr w)), c, d⟩
  obtain ⟨a1, a2, a3, a4⟩ := a z
  exact ⟨a1, Or.inr a2, a3, a4⟩
/-- a dirty node of the present generation written -/
theorem cs_N_w (I : cs_N m o p H L lg D Z P O S) {n : Nat} (hd : D n) (hz : ¬ Z n) {P' : Nat → cs_C} (hP : ∀ k, k ≠ n → P' k = P k) : cs_N m o p H L lg D Z P' O S := by
  refine ⟨I.1, fun k hk => ?_⟩
  obtain ⟨a, b, c, d⟩ := I.2 k hk
  by_cases e : k = n
  · subst e
    exact ⟨fun z => absurd z hz, fun z => absurd hd z, c, d⟩
  · rw [hP k e]
    exact ⟨a, b, c, d⟩
/-- a snapshot -/
theorem cs_N_sn {q : Nat} {lg' : Nat → Int32} (I : cs_N m o p H L lg D Z P O S) (ho : ¬ o < 3) (hq : q < 3) (hqm : q ≠ m) (hqp : q ≠ p) (h0 : ∀ k, k < 16 → lg' (16 * q + k) = 0) (hs : ∀ l k, l ≠ q → k < 16 → lg' (16 * l + k) = lg (16 * l + k)) : cs_N m p q H L lg' D D P P S := by
  obtain ⟨hi, J⟩ := I
  obtain ⟨h1, h2, h3, h4, h5, h6⟩ := hi
  refine ⟨⟨h1, by omega, hq, hqm, hqp, fun _ => h4⟩, fun k hk => ?_⟩
  obtain ⟨a, b, c, d⟩ := J k hk
  have em : cs_v m lg' L H k = cs_v m lg L H k := cs_vX (fun _ => ⟨hs m k (by omega) hk, rfl⟩) rfl
  have ep : cs_v p lg' L (cs_v m lg' L H) k = cs_v p lg L (cs_v o lg L (cs_v m lg L H)) k := cs_vX (fun _ => ⟨hs p k (by omega) hk, rfl⟩) (by rw [cs_v3 ho, em])
  refine ⟨fun z => ⟨h3, z, h0 k hk, rfl⟩, fun z => ?_, fun _ z => ?_, ?_⟩
  · rw [cs_vN (h0 k hk), ep]
    exact b z
  · rw [ep]
    exact b z
  · rw [em, d]
/-- a settled node moved home -/
theorem cs_N_mh (I : cs_N m o p H L lg D Z P O S) {n : Nat} (hn : n < 16) (hm : m < 3) (hl : lg (16 * m + n) ≠ 0) {H' : Nat → cs_C} (hH : ∀ i, i ≠ n → H' i = H i) (hc : H' n = L (16 * m + n)) : cs_N m o p H' L (upd lg (16 * m + n) 0) D Z P O S := by
  obtain ⟨hi, J⟩ := I
  obtain ⟨h1, h2, h3, h4, h5, h6⟩ := hi
  refine ⟨⟨h1, h2, h3, h4, h5, h6⟩, fun k hk => ?_⟩
  obtain ⟨a, b, c, d⟩ := J k hk
  have em : cs_v m (upd lg (16 * m + n) 0) L H' k = cs_v m lg L H k := by
    by_cases e : k = n
    · subst e
      rw [cs_vN pk_us, hc, cs_vY hm hl]
    · exact cs_vO hn hk (Or.inr e) (fun _ _ => rfl) (hH k e)
  have eo : cs_v o (upd lg (16 * m + n) 0) L (cs_v m (upd lg (16 * m + n) 0) L H') k = cs_v o lg L (cs_v m lg L H) k := by
    by_cases e : o < 3
    · exact cs_vO hn hk (Or.inl (h6 e)) (fun _ _ => rfl) em
    · rw [cs_v3 e, cs_v3 e, em]
  have ep : cs_v p (upd lg (16 * m + n) 0) L (cs_v o (upd lg (16 * m + n) 0) L (cs_v m (upd lg (16 * m + n) 0) L H')) k = cs_v p lg L (cs_v o lg L (cs_v m lg L H)) k := cs_vO hn hk (Or.inl h4) (fun _ _ => rfl) eo
  refine ⟨fun z => ?_, fun z => ?_, fun h z => ?_, ?_⟩
  · obtain ⟨a1, a2, a3, a4⟩ := a z
    exact ⟨a1, a2, by rw [pk_un (cs_ne hn hk (Or.inl h4)), a3], a4⟩
  · rw [ep]
    exact b z
  · rw [eo]
    exact c h z
  · rw [em, d]
/-- the mark taken away when nothing is left -/
theorem cs_N_m3 (I : cs_N m o p H L lg D Z P O S) (h : ∀ n, n < 16 → lg (16 * m + n) = 0) : cs_N 3 o p H L lg D Z P O S := by
  obtain ⟨hi, J⟩ := I
  obtain ⟨h1, h2, h3, h4, h5, h6⟩ := hi
  refine ⟨⟨by omega, h2, h3, by omega, h5, fun _ => by omega⟩, fun k hk => ?_⟩
  obtain ⟨a, b, c, d⟩ := J k hk
  have em : cs_v 3 lg L H k = cs_v m lg L H k := by rw [cs_v3 (by decide), cs_vN (h k hk)]
  have eo : cs_v o lg L (cs_v 3 lg L H) k = cs_v o lg L (cs_v m lg L H) k := cs_vX (fun _ => ⟨rfl, rfl⟩) em
  have ep : cs_v p lg L (cs_v o lg L (cs_v 3 lg L H)) k = cs_v p lg L (cs_v o lg L (cs_v m lg L H)) k := cs_vX (fun _ => ⟨rfl, rfl⟩) eo
  refine ⟨a, fun z => ?_, fun h z => ?_, ?_⟩
  · rw [ep]
    exact b z
  · rw [eo]
    exact c h z
  · rw [em, d]
/-- the snapshot settled: nothing is frozen, nothing is left in the settled log -/
theorem cs_N_se (I : cs_N m o p H L lg D Z P O S) (ho : o < 3) (hz : ∀ n, n < 16 → ¬ Z n) (hm : m < 3 → ∀ n, n < 16 → lg (16 * m + n) = 0) : cs_N o 3 p H L lg D Z P O O := by
  obtain ⟨hi, J⟩ := I
  obtain ⟨h1, h2, h3, h4, h5, h6⟩ := hi
  refine ⟨⟨h2, by omega, h3, h5, by omega, fun h => absurd h (by decide)⟩, fun k hk => ?_⟩
  obtain ⟨a, b, c, d⟩ := J k hk
  have em : cs_v m lg L H k = H k := by
    by_cases e : m < 3
    · exact cs_vN (hm e k hk)
    · exact cs_v3 e
  have eo : cs_v o lg L H k = cs_v o lg L (cs_v m lg L H) k := cs_vX (fun _ => ⟨rfl, rfl⟩) em.symm
  have ep : cs_v p lg L (cs_v 3 lg L (cs_v o lg L H)) k = cs_v p lg L (cs_v o lg L (cs_v m lg L H)) k := cs_vX (fun _ => ⟨rfl, rfl⟩) (by rw [cs_v3 (by decide), eo])
  refine ⟨fun z => absurd z (hz k hk), fun z => ?_, fun h => absurd h (by decide), ?_⟩
  · rw [ep]
    exact b z
  · rw [eo]
    exact c ho (hz k hk)
/-- a start from what is on disk -/
theorem cs_N_re {q : Nat} {lg' : Nat → Int32} (hm : m ≤ 3) (hS : ∀ n, n < 16 → cs_v m lg L H n = S n) (hD : ∀ n, n < 16 → ¬ D n) (hZ : ∀ n, n < 16 → ¬ Z n) (hq : q < 3) (hqm : q ≠ m) (h0 : ∀ k, k < 16 → lg' (16 * q + k) = 0) (hs : ∀ l k, l ≠ q → k < 16 → lg' (16 * l + k) = lg (16 * l + k)) : cs_N m 3 q H L lg' D Z S O S := by
  refine ⟨⟨hm, by omega, hq, hqm, by omega, fun h => absurd h (by decide)⟩, fun k hk => ?_⟩
  have em : cs_v m lg' L H k = S k := by
    rw [← hS k hk]
    exact cs_vX (fun _ => ⟨hs m k (by omega) hk, rfl⟩) rfl
  refine ⟨fun z => absurd z (hZ k hk), fun _ => ?_, fun h => absurd h (by decide), em⟩
  rw [cs_vN (h0 k hk), cs_v3 (by decide), em]
end
/-! ===== the frames ===== -/
def cs_D (fo dt : Nat → Int32) (n : Nat) : Prop := ∃ f, f < 5 ∧ fo f = nI n ∧ dt f ≠ 0
def cs_Fr (fo dt fz : Nat → Int32) (F P : Nat → cs_C) : Prop :=
  (∀ f, f < 5 → fo f = -1 ∨ ∃ n, n < 16 ∧ fo f = nI n) ∧
  (∀ f g n, f < 5 → g < 5 → n < 16 → fo f = nI n → fo g = nI n → f = g) ∧
  (∀ f, f < 5 → (dt f = 0 ∨ dt f = 1) ∧ (fz f ≠ 0 → dt f ≠ 0) ∧ (dt f ≠ 0 → fo f ≠ -1)) ∧
  (∀ f n, f < 5 → n < 16 → fo f = nI n → F f = P n)
section
variable {fo dt fz : Nat → Int32} {F P : Nat → cs_C} {f n : Nat}
theorem cs_D_0 (hj : ∀ g, g < 5 → fo g = nI n → g = f) (hf : fo f = nI n) (hn : n < 16) : ∀ k, k < 16 → (cs_D fo (upd dt f 0) k ↔ (k ≠ n ∧ cs_D fo dt k)) := by
  intro k hk
  constructor
  · rintro ⟨g, hg, e, d⟩
    have gf : g ≠ f := by
      intro z
      rw [z, pk_us] at d
      exact d rfl
    rw [pk_un gf] at d
    exact ⟨fun z => gf (hj g hg (by rw [e, z])), g, hg, e, d⟩
  · rintro ⟨kn, g, hg, e, d⟩
    have gf : g ≠ f := by
      intro z
      rw [z, hf] at e
      exact kn (cs_inj (by omega) (by omega) e).symm
    exact ⟨g, hg, e, by rw [pk_un gf]; exact d⟩
theorem cs_D_1 (hf5 : f < 5) (hf : fo f = nI n) (hn : n < 16) : ∀ k, k < 16 → (cs_D fo (upd dt f 1) k ↔ (k = n ∨ cs_D fo dt k)) := by
  intro k hk
  constructor
  · rintro ⟨g, hg, e, d⟩
    by_cases gf : g = f
    · rw [gf, hf] at e
      exact Or.inl (cs_inj (by omega) (by omega) e).symm
    · rw [pk_un gf] at d
      exact Or.inr ⟨g, hg, e, d⟩
  · rintro (z | ⟨g, hg, e, d⟩)
    · exact ⟨f, hf5, by rw [hf, z], by rw [pk_us]; decide⟩
    · by_cases gf : g = f
      · exact ⟨g, hg, e, by rw [gf, pk_us]; decide⟩
      · exact ⟨g, hg, e, by rw [pk_un gf]; exact d⟩
theorem cs_D_x {x : Int32} (h : dt f = 0) : ∀ k, k < 16 → (cs_D (upd fo f x) dt k ↔ cs_D fo dt k) := by
  intro k hk
  constructor
  · rintro ⟨g, hg, e, d⟩
    have gf : g ≠ f := fun z => d (by rw [z, h])
    rw [pk_un gf] at e
    exact ⟨g, hg, e, d⟩
  · rintro ⟨g, hg, e, d⟩
    have gf : g ≠ f := fun z => d (by rw [z, h])
    exact ⟨g, hg, by rw [pk_un gf]; exact e, d⟩
theorem cs_Fr_j (R : cs_Fr fo dt fz F P) (hf5 : f < 5) (hn : n < 16) (hf : fo f = nI n) : ∀ g, g < 5 → fo g = nI n → g = f := fun g hg e => R.2.1 g f n hg hf5 hn e hf
theorem cs_Fr_f (R : cs_Fr fo dt fz F P) (hf5 : f < 5) (hd : dt f = 0) : fz f = 0 := by
  by_cases z : fz f = 0
  · exact z
  · exact absurd hd ((R.2.2.1 f hf5).2.1 z)
theorem cs_Fr_0 (R : cs_Fr fo dt fz F P) : cs_Fr fo (upd dt f 0) (upd fz f 0) F P := by
  obtain ⟨a, b, c, d⟩ := R
  refine ⟨a, b, fun g hg => ?_, d⟩
  by_cases e : g = f
  · subst e
    rw [pk_us, pk_us]
    exact ⟨Or.inl rfl, fun z => z, fun z => absurd rfl z⟩
  · rw [pk_un e, pk_un e]
    exact c g hg
theorem cs_Fr_dr (R : cs_Fr fo dt fz F P) (hd : dt f = 0) : cs_Fr (upd fo f (-1)) dt fz F P := by
  obtain ⟨a, b, c, d⟩ := R
  have k : ∀ g n, n < 16 → upd fo f (-1) g = nI n → g ≠ f ∧ fo g = nI n := by
    intro g n hn e
    by_cases gf : g = f
    · rw [gf, pk_us] at e
      exact absurd e.symm (cs_nm1 (by omega))
    · rw [pk_un gf] at e
      exact ⟨gf, e⟩
  refine ⟨fun g hg => ?_, fun g g' n hg hg' hn e e' => b g g' n hg hg' hn (k g n hn e).2 (k g' n hn e').2, fun g hg => ?_, fun g n hg hn e => d g n hg hn (k g n hn e).2⟩
  · by_cases gf : g = f
    · rw [gf, pk_us]
      exact Or.inl rfl
    · rw [pk_un gf]
      exact a g hg
  · obtain ⟨c1, c2, c3⟩ := c g hg
    refine ⟨c1, c2, fun z => ?_⟩
    by_cases gf : g = f
    · rw [gf] at z
      exact absurd hd z
    · rw [pk_un gf]
      exact c3 z
theorem cs_Fr_ld {F' : Nat → cs_C} (R : cs_Fr fo dt fz F P) (hd : dt f = 0) (hn : n < 16) (hx : ∀ g, g < 5 → fo g ≠ nI n) (hF : F' f = P n) (hG : ∀ g, g ≠ f → F' g = F g) : cs_Fr (upd fo f (nI n)) dt fz F' P := by
  obtain ⟨a, b, c, d⟩ := R
  have k : ∀ g i, g < 5 → i < 16 → upd fo f (nI n) g = nI i → (g = f ∧ i = n) ∨ (g ≠ f ∧ i ≠ n ∧ fo g = nI i) := by
    intro g i hg hi e
    by_cases gf : g = f
    · rw [gf, pk_us] at e
      exact Or.inl ⟨gf, (cs_inj (by omega) (by omega) e).symm⟩
    · rw [pk_un gf] at e
      refine Or.inr ⟨gf, fun z => ?_, e⟩
      rw [z] at e
      exact hx g hg e
  refine ⟨fun g hg => ?_, fun g g' i hg hg' hi e e' => ?_, fun g hg => ?_, fun g i hg hi e => ?_⟩
  · by_cases gf : g = f
    · rw [gf, pk_us]
      exact Or.inr ⟨n, hn, rfl⟩
    · rw [pk_un gf]
      exact a g hg
  · rcases k g i hg hi e with ⟨p1, p2⟩ | ⟨p1, p2, p3⟩
    · rcases k g' i hg' hi e' with ⟨q1, q2⟩ | ⟨q1, q2, q3⟩
      · rw [p1, q1]
      · exact absurd p2 q2
    · rcases k g' i hg' hi e' with ⟨q1, q2⟩ | ⟨q1, q2, q3⟩
      · exact absurd q2 p2
      · exact b g g' i hg hg' hi p3 q3
  · obtain ⟨c1, c2, c3⟩ := c g hg
    refine ⟨c1, c2, fun z => ?_⟩
    by_cases gf : g = f
    · rw [gf] at z
      exact absurd hd z
    · rw [pk_un gf]
      exact c3 z
  · rcases k g i hg hi e with ⟨p1, p2⟩ | ⟨p1, p2, p3⟩
    · rw [p1, p2, hF]
    · rw [hG g p1]
      exact d g i hg hi p3
theorem cs_Fr_1 (R : cs_Fr fo dt fz F P) (hn : n < 16) (hf : fo f = nI n) : cs_Fr fo (upd dt f 1) fz F P := by
  obtain ⟨a, b, c, d⟩ := R
  refine ⟨a, b, fun g hg => ?_, d⟩
  by_cases e : g = f
  · rw [e, pk_us, hf]
    exact ⟨Or.inr rfl, fun _ => by decide, fun _ => cs_nm1 (by omega)⟩
  · rw [pk_un e]
    exact c g hg
theorem cs_Fr_w {F' P' : Nat → cs_C} (R : cs_Fr fo dt fz F P) (hf5 : f < 5) (hn : n < 16) (hf : fo f = nI n) (hG : ∀ g, g ≠ f → F' g = F g) (hP : ∀ k, k ≠ n → P' k = P k) (hE : F' f = P' n) : cs_Fr fo dt fz F' P' := by
  obtain ⟨a, b, c, d⟩ := R
  refine ⟨a, b, c, fun g i hg hi e => ?_⟩
  by_cases gf : g = f
  · rw [gf, hf] at e
    rw [gf, ← cs_inj (by omega) (by omega) e, hE]
  · have ni : i ≠ n := by
      intro z
      rw [z] at e
      exact gf (b g f n hg hf5 hn e hf)
    rw [hG g gf, hP i ni]
    exact d g i hg hi e
theorem cs_Fr_sn {fz' : Nat → Int32} (R : cs_Fr fo dt fz F P) (h : ∀ f, f < 5 → fz' f = dt f) : cs_Fr fo dt fz' F P := by
  obtain ⟨a, b, c, d⟩ := R
  refine ⟨a, b, fun g hg => ?_, d⟩
  rw [h g hg]
  exact ⟨(c g hg).1, fun z => z, (c g hg).2.2⟩
theorem cs_Fr_re (h : ∀ f, f < 5 → fo f = -1 ∧ dt f = 0 ∧ fz f = 0) : cs_Fr fo dt fz F P := by
  refine ⟨fun g hg => Or.inl (h g hg).1, fun g g' n hg hg' hn e e' => ?_, fun g hg => ?_, fun g n hg hn e => ?_⟩
  · rw [(h g hg).1] at e
    exact absurd e.symm (cs_nm1 (by omega))
  · rw [(h g hg).2.1, (h g hg).2.2]
    exact ⟨Or.inl rfl, fun z => z, fun z => absurd rfl z⟩
  · rw [(h g hg).1] at e
    exact absurd e.symm (cs_nm1 (by omega))
theorem cs_D_re {x : Nat → Int32} (h : ∀ f, f < 5 → x f = 0) : ∀ k, k < 16 → ¬ cs_D fo x k := by
  rintro k hk ⟨g, hg, e, d⟩
  exact d (h g hg)
theorem cs_D_sn {x y : Nat → Int32} (h : ∀ f, f < 5 → y f = x f) : ∀ k, k < 16 → (cs_D fo y k ↔ cs_D fo x k) := by
  intro k hk
  constructor
  · rintro ⟨g, hg, e, d⟩
    exact ⟨g, hg, e, by rw [← h g hg]; exact d⟩
  · rintro ⟨g, hg, e, d⟩
    exact ⟨g, hg, e, by rw [h g hg]; exact d⟩
end
end
section
/-- the component's state holds the generations P (present), O (snapshot), S (settled) -/
def cs_Rep (u : SX) (m o p : Nat) (P O S : Nat → cs_C) : Prop := match u with
  | (xm, xh, xo, xp, An, At, As, Av, Gn, Gt, Gs, Gv, Lg, Fo, Dt, Fz, Fn, Ft, Fs, Fv) => xm = cs_i m ∧ xo = cs_i o ∧ xp = nI p ∧ (∃ h, h < 5 ∧ xh = nI h) ∧ cs_Fr Fo Dt Fz (cs_c Fv Fn Ft Fs) P ∧ cs_N m o p (cs_c Av An At As) (cs_c Gv Gn Gt Gs) Lg (cs_D Fo Dt) (cs_D Fo Fz) P O S
section
variable {xm xh xo xp : Int32} {An At As Av Gn Gt Gs Gv Lg Fo Dt Fz Fn Ft Fs Fv : Nat → Int32}
variable {m o p : Nat} {P O S : Nat → cs_C}
/-! ===== unusedLog, clearLog ===== -/
theorem cs_un_st {post : Int32 → Prop} {n j : Nat} (hj : j < 3) (hm : m ≤ 3) (ho : o ≤ 3) (A : j = m ∨ j = o → wX_unusedLog_2 post (cs_i m) xh (cs_i o) xp An At As Av Gn Gt Gs Gv Lg Fo Dt Fz Fn Ft Fs Fv n (nI (j + 1))) (B : j ≠ m → j ≠ o → post (nI j)) : wX_unusedLog_2 post (cs_i m) xh (cs_i o) xp An At As Av Gn Gt Gs Gv Lg Fo Dt Fz Fn Ft Fs Fv (n + 1) (nI j) :=
  br_f (nI_ge (b := 3) hj (by decide)) (br_c (fun e => nm_r (nI_1 j) (A (Or.inl (cs_iE hj hm e)))) (fun e1 => br_c (fun e => nm_r (nI_1 j) (A (Or.inr (cs_iE hj ho e)))) (fun e2 => B (fun z => e1 (by rw [← z, cs_iN hj])) (fun z => e2 (by rw [← z, cs_iN hj])))))
theorem cs_unused {post : Int32 → Prop} (hm : m ≤ 3) (ho : o ≤ 3) (K : ∀ q, q < 3 → q ≠ m → q ≠ o → post (nI q)) : wpX_unusedLog post (cs_i m, xh, cs_i o, xp, An, At, As, Av, Gn, Gt, Gs, Gv, Lg, Fo, Dt, Fz, Fn, Ft, Fs, Fv) := by
  refine ⟨3, ?_⟩
  refine cs_un_st (j := 0) (by omega) hm ho (fun h0 => ?_) (K 0 (by omega))
  refine cs_un_st (j := 1) (by omega) hm ho (fun h1 => ?_) (K 1 (by omega))
  refine cs_un_st (j := 2) (by omega) hm ho (fun h2 => ?_) (K 2 (by omega))
  exact absurd h0 (by omega)
theorem cs_clear_lp {post : SX → Prop} {q : Nat} (hq : q < 3) {Lg0 : Nat → Int32} (K : ∀ lg', (∀ k, k < 16 → lg' (16 * q + k) = 0) → (∀ l k, l ≠ q → k < 16 → lg' (16 * l + k) = Lg0 (16 * l + k)) → post (xm, xh, xo, xp, An, At, As, Av, Gn, Gt, Gs, Gv, lg', Fo, Dt, Fz, Fn, Ft, Fs, Fv)) : ∀ d j lg, j + d = 16 → (∀ k, k < j → lg (16 * q + k) = 0) → (∀ l k, l ≠ q → k < 16 → lg (16 * l + k) = Lg0 (16 * l + k)) → wX_clearLog_2 post (nI q) xm xh xo xp (d + 1) (nI j) An At As Av Gn Gt Gs Gv lg Fo Dt Fz Fn Ft Fs Fv := by
  intro d
  induction d with
  | zero =>
    intro j lg hj h0 hs
    exact br_t (nI_le (a := 16) (by omega) (by omega)) (K lg (fun k hk => h0 k (by omega)) hs)
  | succ d ih =>
    intro j lg hj h0 hs
    have i1 : vp_in (16 * nI q + nI j) 48 := by rw [cs_e16]; exact vp_in_nI (by omega) (by decide)
    have c1 : (16 * nI q + nI j).toNatClampNeg = 16 * q + j := by rw [cs_e16]; exact nI_clamp (by omega)
    refine br_f (nI_ge (b := 16) (by omega) (by decide)) ⟨i1, nm_r (cs_ux c1 cs_b0) (nm_r (nI_1 j) ?_)⟩
    refine ih (j + 1) (upd lg (16 * q + j) 0) (by omega) (fun k hk => ?_) (fun l k hl hk => ?_)
    · by_cases e : k = j
      · rw [e, pk_us]
      · rw [pk_un (by omega)]
        exact h0 k (by omega)
    · rw [pk_un (by omega)]
      exact hs l k hl hk
theorem cs_clear {post : SX → Prop} {q : Nat} (hq : q < 3) (K : ∀ lg', (∀ k, k < 16 → lg' (16 * q + k) = 0) → (∀ l k, l ≠ q → k < 16 → lg' (16 * l + k) = Lg (16 * l + k)) → post (xm, xh, xo, xp, An, At, As, Av, Gn, Gt, Gs, Gv, lg', Fo, Dt, Fz, Fn, Ft, Fs, Fv)) : wpX_clearLog post (xm, xh, xo, xp, An, At, As, Av, Gn, Gt, Gs, Gv, Lg, Fo, Dt, Fz, Fn, Ft, Fs, Fv) (nI q) :=
  ⟨17, cs_clear_lp hq K 16 0 Lg (by omega) (fun k hk => absurd hk (by omega)) (fun _ _ _ _ => rfl)⟩
/-! ===== restart ===== -/
theorem cs_re_lp {post : SX → Prop} (hm : m ≤ 3) (hS : ∀ n, n < 16 → cs_v m Lg (cs_c Gv Gn Gt Gs) (cs_c Av An At As) n = S n) (K : ∀ u' q, cs_Rep u' m 3 q S O S → post u') : ∀ d j fo dt fz, j + d = 5 → (∀ f, f < j → fo f = -1 ∧ dt f = 0 ∧ fz f = 0) → wX_restart_2 post (cs_i m) xh xo xp (d + 1) (nI j) An At As Av Gn Gt Gs Gv Lg fo dt fz Fn Ft Fs Fv := by
  intro d
  induction d with
  | zero =>
    intro j fo dt fz hj h
    have h' : ∀ f, f < 5 → fo f = -1 ∧ dt f = 0 ∧ fz f = 0 := fun f hf => h f (by omega)
    refine br_t (nI_le (a := 5) (by omega) (by omega)) ?_
    refine cs_unused (o := 3) hm (by omega) (fun q hq hqm _ => ?_)
    refine cs_clear hq (fun lg' h0 hs => ?_)
    refine K _ q ⟨rfl, rfl, rfl, ⟨0, by omega, rfl⟩, cs_Fr_re h', ?_⟩
    exact cs_N_re hm hS (cs_D_re (fun f hf => (h' f hf).2.1)) (cs_D_re (fun f hf => (h' f hf).2.2)) hq hqm h0 hs
  | succ d ih =>
    intro j fo dt fz hj h
    have i1 : vp_in (nI j) 5 := vp_in_nI (by omega) (by decide)
    have c1 : (nI j).toNatClampNeg = j := nI_clamp (by omega)
    refine br_f (nI_ge (b := 5) (by omega) (by decide)) ⟨i1, nm_r (cs_ux c1 rfl) ⟨i1, nm_r (cs_ux c1 cs_b0) ⟨i1, nm_r (cs_ux c1 cs_b0) (nm_r (nI_1 j) ?_)⟩⟩⟩
    refine ih (j + 1) (upd fo j (-1)) (upd dt j 0) (upd fz j 0) (by omega) (fun f hf => ?_)
    by_cases e : f = j
    · rw [e, pk_us, pk_us, pk_us]
      exact ⟨rfl, rfl, rfl⟩
    · rw [pk_un e, pk_un e, pk_un e]
      exact h f (by omega)
theorem cs_restart {post : SX → Prop} (hm : m ≤ 3) (hS : ∀ n, n < 16 → cs_v m Lg (cs_c Gv Gn Gt Gs) (cs_c Av An At As) n = S n) (K : ∀ u' q, cs_Rep u' m 3 q S O S → post u') : wpX_restart post (cs_i m, xh, xo, xp, An, At, As, Av, Gn, Gt, Gs, Gv, Lg, Fo, Dt, Fz, Fn, Ft, Fs, Fv) :=
  ⟨6, cs_re_lp (O := O) hm hS K 5 0 Fo Dt Fz (by omega) (fun f hf => absurd hf (by omega))⟩
/-! ===== save ===== -/
theorem cs_sv_st {post : SX → Prop} {f e s n : Nat} (hf : f < 5) (he : e < 48) (hs : s < 4) (K : wX_save_39 post (nI f) (nI e) xm xh xo xp n (nI (s + 1)) An At As Av (upd Gn (4 * e + s) (Fn (4 * f + s))) (upd Gt (4 * e + s) (Ft (4 * f + s))) (upd Gs (4 * e + s) (Fs (4 * f + s))) Gv Lg Fo Dt Fz Fn Ft Fs Fv) : wX_save_39 post (nI f) (nI e) xm xh xo xp (n + 1) (nI s) An At As Av Gn Gt Gs Gv Lg Fo Dt Fz Fn Ft Fs Fv := by
  have i1 : vp_in (4 * nI f + nI s) 20 := by rw [cs_e4]; exact vp_in_nI (by omega) (by decide)
  have i2 : vp_in (4 * nI e + nI s) 192 := by rw [cs_e4]; exact vp_in_nI (by omega) (by decide)
  have c1 : (4 * nI f + nI s).toNatClampNeg = 4 * f + s := by rw [cs_e4]; exact nI_clamp (by omega)
  have c2 : (4 * nI e + nI s).toNatClampNeg = 4 * e + s := by rw [cs_e4]; exact nI_clamp (by omega)
  exact br_f (nI_ge (b := 4) hs (by decide)) ⟨i1, i2, nm_r (cs_up c2 c1) ⟨i1, i2, nm_r (cs_up c2 c1) ⟨i1, i2, nm_r (cs_up c2 c1) (nm_r (nI_1 s) K)⟩⟩⟩
theorem cs_save {post : SX → Prop} {f l n : Nat} (hf : f < 5) (hl : l < 3) (hn : n < 16) (hfo : Fo f = nI n) (K : post (xm, xh, xo, xp, An, At, As, Av, cs_4 Gn (16 * l + n) Fn f, cs_4 Gt (16 * l + n) Ft f, cs_4 Gs (16 * l + n) Fs f, upd Gv (16 * l + n) (Fv f), upd Lg (16 * l + n) 1, Fo, Dt, Fz, Fn, Ft, Fs, Fv)) : wpX_save post (xm, xh, xo, xp, An, At, As, Av, Gn, Gt, Gs, Gv, Lg, Fo, Dt, Fz, Fn, Ft, Fs, Fv) (nI f) (nI l) := by
  have i1 : vp_in (nI f) 5 := vp_in_nI hf (by decide)
  have c1 : (nI f).toNatClampNeg = f := nI_clamp (by omega)
  have he : 16 * l + n < 48 := by omega
  have i2 : vp_in (nI (16 * l + n)) 48 := vp_in_nI he (by decide)
  have c2 : (nI (16 * l + n)).toNatClampNeg = 16 * l + n := nI_clamp (by omega)
  refine ⟨i1, nm_r (e' := nI n) (by rw [c1, hfo]) (nm_r (cs_e16 l n) ⟨i2, nm_r (cs_ux c2 cs_b1) ⟨i1, i2, nm_r (cs_up c2 c1) ⟨5, ?_⟩⟩⟩)⟩
  refine cs_sv_st (s := 0) hf he (by omega) ?_
  refine cs_sv_st (s := 1) hf he (by omega) ?_
  refine cs_sv_st (s := 2) hf he (by omega) ?_
  refine cs_sv_st (s := 3) hf he (by omega) ?_
  exact br_t (nI_le (a := 4) (b := 4) (by omega) (by omega)) K
/-! ===== saveFrozen, makeWritable, evict ===== -/
theorem cs_saveFrozen {post : SX → Prop} (R : cs_Rep (xm, xh, xo, xp, An, At, As, Av, Gn, Gt, Gs, Gv, Lg, Fo, Dt, Fz, Fn, Ft, Fs, Fv) m o p P O S) {f : Nat} (hf : f < 5) (hz : Fz f ≠ 0) (K : ∀ Gn' Gt' Gs' Gv' Lg', cs_Rep (xm, xh, xo, xp, An, At, As, Av, Gn', Gt', Gs', Gv', Lg', Fo, upd Dt f 0, upd Fz f 0, Fn, Ft, Fs, Fv) m o p P O S → post (xm, xh, xo, xp, An, At, As, Av, Gn', Gt', Gs', Gv', Lg', Fo, upd Dt f 0, upd Fz f 0, Fn, Ft, Fs, Fv)) : wpX_saveFrozen post (xm, xh, xo, xp, An, At, As, Av, Gn, Gt, Gs, Gv, Lg, Fo, Dt, Fz, Fn, Ft, Fs, Fv) (nI f) := by
  obtain ⟨rfl, rfl, rfl, hh, hF, hN⟩ := R
  obtain ⟨d1, d2, d3⟩ := hF.2.2.1 f hf
  have hd := d2 hz
  rcases hF.1 f hf with e | ⟨n, hn, e⟩
  · exact absurd e (d3 hd)
  · have hZ : cs_D Fo Fz n := ⟨f, hf, e, hz⟩
    have ho : o < 3 := ((hN.2 n hn).1 hZ).1
    have i1 : vp_in (nI f) 5 := vp_in_nI hf (by decide)
    have c1 : (nI f).toNatClampNeg = f := nI_clamp (by omega)
    have hj := cs_Fr_j hF hf hn e
    have N1 := cs_N_sz hN hn hZ (L' := cs_c (upd Gv (16 * o + n) (Fv f)) (cs_4 Gn (16 * o + n) Fn f) (cs_4 Gt (16 * o + n) Ft f) (cs_4 Gs (16 * o + n) Fs f)) (fun i hi => cs_cN hi) (by rw [cs_cS]; exact hF.2.2.2 f n hf hn e)
    have N2 := cs_N_iff (cs_D_0 (dt := Dt) hj e hn) (cs_D_0 (dt := Fz) hj e hn) N1
    unfold wpX_saveFrozen
    rw [cs_iN ho]
    refine cs_save hf ho hn e ?_
    refine ⟨i1, nm_r (cs_ux c1 cs_b0) ⟨i1, nm_r (cs_ux c1 cs_b0) ?_⟩⟩
    rw [← cs_iN ho]
    exact K _ _ _ _ _ ⟨rfl, rfl, rfl, hh, cs_Fr_0 hF, N2⟩
theorem cs_makeWritable {post : SX → Prop} (R : cs_Rep (xm, xh, xo, xp, An, At, As, Av, Gn, Gt, Gs, Gv, Lg, Fo, Dt, Fz, Fn, Ft, Fs, Fv) m o p P O S) {f n : Nat} (hf : f < 5) (hn : n < 16) (e : Fo f = nI n) (K : ∀ Gn' Gt' Gs' Gv' Lg' Dt' Fz', Dt' f ≠ 0 → Fz' f = 0 → cs_Rep (xm, xh, xo, xp, An, At, As, Av, Gn', Gt', Gs', Gv', Lg', Fo, Dt', Fz', Fn, Ft, Fs, Fv) m o p P O S → post (xm, xh, xo, xp, An, At, As, Av, Gn', Gt', Gs', Gv', Lg', Fo, Dt', Fz', Fn, Ft, Fs, Fv)) : wpX_makeWritable post (xm, xh, xo, xp, An, At, As, Av, Gn, Gt, Gs, Gv, Lg, Fo, Dt, Fz, Fn, Ft, Fs, Fv) (nI f) := by
  have i1 : vp_in (nI f) 5 := vp_in_nI hf (by decide)
  have c1 : (nI f).toNatClampNeg = f := nI_clamp (by omega)
  have n1 : ∀ a : Nat → Int32, upd a f 1 f ≠ 0 := by
    intro a
    rw [pk_us]
    decide
  unfold wpX_makeWritable
  refine ⟨i1, ?_⟩
  rw [c1]
  refine br_c (fun z => ?_) (fun z => ?_)
  · refine ⟨i1, nm_r (e' := upd Dt f 1) rfl ?_⟩
    obtain ⟨r1, r2, r3, hh, hF, hN⟩ := R
    exact K _ _ _ _ _ _ _ (n1 _) z ⟨r1, r2, r3, hh, cs_Fr_1 hF hn e, cs_N_iff (cs_D_1 hf e hn) (fun _ _ => Iff.rfl) (cs_N_d hN n)⟩
  · refine cs_saveFrozen R hf z (fun Gn' Gt' Gs' Gv' Lg' R' => ?_)
    refine ⟨i1, nm_r (e' := upd (upd Dt f 0) f 1) rfl ?_⟩
    obtain ⟨r1, r2, r3, hh, hF, hN⟩ := R'
    exact K _ _ _ _ _ _ _ (n1 _) pk_us ⟨r1, r2, r3, hh, cs_Fr_1 hF hn e, cs_N_iff (cs_D_1 hf e hn) (fun _ _ => Iff.rfl) (cs_N_d hN n)⟩
theorem cs_Rep_dr (R : cs_Rep (xm, xh, xo, xp, An, At, As, Av, Gn, Gt, Gs, Gv, Lg, Fo, Dt, Fz, Fn, Ft, Fs, Fv) m o p P O S) {f : Nat} (hf : f < 5) (hd : Dt f = 0) : cs_Rep (xm, xh, xo, xp, An, At, As, Av, Gn, Gt, Gs, Gv, Lg, upd Fo f (-1), Dt, Fz, Fn, Ft, Fs, Fv) m o p P O S := by
  obtain ⟨r1, r2, r3, hh, hF, hN⟩ := R
  exact ⟨r1, r2, r3, hh, cs_Fr_dr hF hd, cs_N_iff (cs_D_x hd) (cs_D_x (cs_Fr_f hF hf hd)) hN⟩
theorem cs_evict {post : SX → Prop} (R : cs_Rep (xm, xh, xo, xp, An, At, As, Av, Gn, Gt, Gs, Gv, Lg, Fo, Dt, Fz, Fn, Ft, Fs, Fv) m o p P O S) {f : Nat} (hf : f < 5) (K : ∀ Gn' Gt' Gs' Gv' Lg' Dt' Fz', Dt' f = 0 → cs_Rep (xm, xh, xo, xp, An, At, As, Av, Gn', Gt', Gs', Gv', Lg', upd Fo f (-1), Dt', Fz', Fn, Ft, Fs, Fv) m o p P O S → post (xm, xh, xo, xp, An, At, As, Av, Gn', Gt', Gs', Gv', Lg', upd Fo f (-1), Dt', Fz', Fn, Ft, Fs, Fv)) : wpX_evict post (xm, xh, xo, xp, An, At, As, Av, Gn, Gt, Gs, Gv, Lg, Fo, Dt, Fz, Fn, Ft, Fs, Fv) (nI f) := by
  have i1 : vp_in (nI f) 5 := vp_in_nI hf (by decide)
  have c1 : (nI f).toNatClampNeg = f := nI_clamp (by omega)
  unfold wpX_evict
  refine ⟨i1, ?_⟩
  rw [c1]
  refine br_c (fun z => ?_) (fun z => ⟨i1, ?_⟩)
  · refine ⟨i1, nm_e ?_⟩
    have hd : Dt f = 0 := by
      obtain ⟨r1, r2, r3, hh, hF, hN⟩ := R
      by_cases y : Dt f = 0
      · exact y
      · rcases hF.1 f hf with e | ⟨n, hn, e⟩
        · exact absurd e ((hF.2.2.1 f hf).2.2 y)
        · rw [e] at z
          exact absurd z (nI_pos (by omega))
    exact K _ _ _ _ _ _ _ hd (cs_Rep_dr R hf hd)
  · refine br_c (fun y => ⟨i1, nm_e ?_⟩) (fun y => ⟨i1, ?_⟩)
    · exact K _ _ _ _ _ _ _ y (cs_Rep_dr R hf y)
    · refine br_c (fun w => ?_) (fun w => ?_)
      · obtain ⟨rfl, rfl, rfl, hh, hF, hN⟩ := R
        rcases hF.1 f hf with e | ⟨n, hn, e⟩
        · exact absurd e ((hF.2.2.1 f hf).2.2 y)
        · have hj := cs_Fr_j hF hf hn e
          have nZ : ¬ cs_D Fo Fz n := by
            rintro ⟨g, hg, e', d⟩
            rw [hj g hg e'] at d
            exact d w
          have N1 := cs_N_sp hN hn nZ (L' := cs_c (upd Gv (16 * p + n) (Fv f)) (cs_4 Gn (16 * p + n) Fn f) (cs_4 Gt (16 * p + n) Ft f) (cs_4 Gs (16 * p + n) Fs f)) (fun i hi => cs_cN hi) (by rw [cs_cS]; exact hF.2.2.2 f n hf hn e)
          have N2 := cs_N_iff (cs_D_0 (dt := Dt) hj e hn) (fun _ _ => Iff.rfl) N1
          have F2 := cs_Fr_0 (f := f) hF
          rw [cs_us w] at F2
          refine cs_save hf hN.1.2.2.1 hn e ?_
          refine ⟨i1, nm_r (e' := upd Dt f 0) rfl ⟨i1, nm_e ?_⟩⟩
          exact K _ _ _ _ _ _ _ pk_us (cs_Rep_dr ⟨rfl, rfl, rfl, hh, F2, N2⟩ hf pk_us)
      · refine cs_saveFrozen R hf w (fun Gn' Gt' Gs' Gv' Lg' R' => ?_)
        refine ⟨i1, nm_e ?_⟩
        exact K _ _ _ _ _ _ _ pk_us (cs_Rep_dr R' hf pk_us)
end
end
section
section
variable {xm xh xo xp : Int32} {An At As Av Gn Gt Gs Gv Lg Fo Dt Fz Fn Ft Fs Fv : Nat → Int32}
variable {m o p : Nat} {P O S : Nat → cs_C}
/-! ===== newestLog, load ===== -/
theorem cs_nw_51 {post : Int32 → Prop} {n : Nat} (hm : m ≤ 3) (hn : n < 16) (K : ∀ l, l ≤ 3 → (l < 3 → cs_v m Lg (cs_c Gv Gn Gt Gs) (cs_c Av An At As) n = cs_c Gv Gn Gt Gs (16 * l + n)) → (¬ l < 3 → cs_v m Lg (cs_c Gv Gn Gt Gs) (cs_c Av An At As) n = cs_c Av An At As n) → post (cs_i l)) : wX_newestLog_51 post (nI n) (cs_i m) xh xo xp An At As Av Gn Gt Gs Gv Lg Fo Dt Fz Fn Ft Fs Fv := by
  have k3 : cs_v m Lg (cs_c Gv Gn Gt Gs) (cs_c Av An At As) n = cs_c Av An At As n → post (-1) := fun h => K 3 (by omega) (fun z => absurd z (by decide)) (fun _ => h)
  unfold wX_newestLog_51
  by_cases c : m < 3
  · refine br_f (cs_iP c) ?_
    rw [cs_iN c]
    have i1 : vp_in (16 * nI m + nI n) 48 := by rw [cs_e16]; exact vp_in_nI (by omega) (by decide)
    have c1 : (16 * nI m + nI n).toNatClampNeg = 16 * m + n := by rw [cs_e16]; exact nI_clamp (by omega)
    refine ⟨i1, ?_⟩
    rw [c1]
    refine br_c (fun z => k3 (cs_vN z)) (fun z => ?_)
    rw [← cs_iN c]
    exact K m hm (fun _ => cs_vY c z) (fun h => absurd c h)
  · exact br_t (cs_iQ c) (k3 (cs_v3 c))
theorem cs_newest {post : Int32 → Prop} {n : Nat} (hm : m ≤ 3) (ho : o ≤ 3) (hp : p < 3) (hn : n < 16) (K : ∀ l, l ≤ 3 → (l < 3 → cs_v p Lg (cs_c Gv Gn Gt Gs) (cs_v o Lg (cs_c Gv Gn Gt Gs) (cs_v m Lg (cs_c Gv Gn Gt Gs) (cs_c Av An At As))) n = cs_c Gv Gn Gt Gs (16 * l + n)) → (¬ l < 3 → cs_v p Lg (cs_c Gv Gn Gt Gs) (cs_v o Lg (cs_c Gv Gn Gt Gs) (cs_v m Lg (cs_c Gv Gn Gt Gs) (cs_c Av An At As))) n = cs_c Av An At As n) → post (cs_i l)) : wpX_newestLog post (cs_i m, xh, cs_i o, nI p, An, At, As, Av, Gn, Gt, Gs, Gv, Lg, Fo, Dt, Fz, Fn, Ft, Fs, Fv) (nI n) := by
  have i1 : vp_in (16 * nI p + nI n) 48 := by rw [cs_e16]; exact vp_in_nI (by omega) (by decide)
  have c1 : (16 * nI p + nI n).toNatClampNeg = 16 * p + n := by rw [cs_e16]; exact nI_clamp (by omega)
  unfold wpX_newestLog
  refine ⟨i1, ?_⟩
  rw [c1]
  refine br_c (fun z => ?_) (fun z => ?_)
  · have e1 := cs_vN (L := cs_c Gv Gn Gt Gs) (X := cs_v o Lg (cs_c Gv Gn Gt Gs) (cs_v m Lg (cs_c Gv Gn Gt Gs) (cs_c Av An At As))) z
    rw [e1] at K
    by_cases c : o < 3
    · refine br_f (cs_iP c) ?_
      have i2 : vp_in (16 * cs_i o + nI n) 48 := by rw [cs_iN c, cs_e16]; exact vp_in_nI (by omega) (by decide)
      have c2 : (16 * cs_i o + nI n).toNatClampNeg = 16 * o + n := by rw [cs_iN c, cs_e16]; exact nI_clamp (by omega)
      refine ⟨i2, ?_⟩
      rw [c2]
      refine br_c (fun y => ?_) (fun y => ?_)
      · have e2 := cs_vN (L := cs_c Gv Gn Gt Gs) (X := cs_v m Lg (cs_c Gv Gn Gt Gs) (cs_c Av An At As)) y
        rw [e2] at K
        exact cs_nw_51 hm hn K
      · exact K o ho (fun _ => cs_vY c y) (fun h => absurd c h)
    · refine br_t (cs_iQ c) ?_
      have e2 := cs_v3 (n := n) (lg := Lg) (L := cs_c Gv Gn Gt Gs) (X := cs_v m Lg (cs_c Gv Gn Gt Gs) (cs_c Av An At As)) c
      rw [e2] at K
      exact cs_nw_51 hm hn K
  · rw [← cs_iN hp]
    exact K p (by omega) (fun _ => cs_vY hp z) (fun h => absurd hp h)
theorem cs_lh_st {post : SX → Prop} {f e s n : Nat} (hf : f < 5) (he : e < 16) (hs : s < 4) (K : wX_loadHome_14 post (nI f) (nI e) xm xh xo xp n (nI (s + 1)) An At As Av Gn Gt Gs Gv Lg Fo Dt Fz (upd Fn (4 * f + s) (An (4 * e + s))) (upd Ft (4 * f + s) (At (4 * e + s))) (upd Fs (4 * f + s) (As (4 * e + s))) Fv) : wX_loadHome_14 post (nI f) (nI e) xm xh xo xp (n + 1) (nI s) An At As Av Gn Gt Gs Gv Lg Fo Dt Fz Fn Ft Fs Fv := by
  have i1 : vp_in (4 * nI f + nI s) 20 := by rw [cs_e4]; exact vp_in_nI (by omega) (by decide)
  have i2 : vp_in (4 * nI e + nI s) 64 := by rw [cs_e4]; exact vp_in_nI (by omega) (by decide)
  have c1 : (4 * nI f + nI s).toNatClampNeg = 4 * f + s := by rw [cs_e4]; exact nI_clamp (by omega)
  have c2 : (4 * nI e + nI s).toNatClampNeg = 4 * e + s := by rw [cs_e4]; exact nI_clamp (by omega)
  exact br_f (nI_ge (b := 4) hs (by decide)) ⟨i2, i1, nm_r (cs_up c1 c2) ⟨i2, i1, nm_r (cs_up c1 c2) ⟨i2, i1, nm_r (cs_up c1 c2) (nm_r (nI_1 s) K)⟩⟩⟩
theorem cs_loadHome {post : SX → Prop} {f e : Nat} (hf : f < 5) (he : e < 16) (K : post (xm, xh, xo, xp, An, At, As, Av, Gn, Gt, Gs, Gv, Lg, Fo, Dt, Fz, cs_4 Fn f An e, cs_4 Ft f At e, cs_4 Fs f As e, upd Fv f (Av e))) : wpX_loadHome post (xm, xh, xo, xp, An, At, As, Av, Gn, Gt, Gs, Gv, Lg, Fo, Dt, Fz, Fn, Ft, Fs, Fv) (nI f) (nI e) := by
  have i1 : vp_in (nI f) 5 := vp_in_nI hf (by decide)
  have c1 : (nI f).toNatClampNeg = f := nI_clamp (by omega)
  have i2 : vp_in (nI e) 16 := vp_in_nI he (by decide)
  have c2 : (nI e).toNatClampNeg = e := nI_clamp (by omega)
  refine ⟨i2, i1, nm_r (cs_up c1 c2) ⟨5, ?_⟩⟩
  refine cs_lh_st (s := 0) hf he (by omega) ?_
  refine cs_lh_st (s := 1) hf he (by omega) ?_
  refine cs_lh_st (s := 2) hf he (by omega) ?_
  refine cs_lh_st (s := 3) hf he (by omega) ?_
  exact br_t (nI_le (a := 4) (b := 4) (by omega) (by omega)) K
theorem cs_ll_st {post : SX → Prop} {f e s n : Nat} (hf : f < 5) (he : e < 48) (hs : s < 4) (K : wX_load_62 post (nI f) (nI e) xm xh xo xp n (nI (s + 1)) An At As Av Gn Gt Gs Gv Lg Fo Dt Fz (upd Fn (4 * f + s) (Gn (4 * e + s))) (upd Ft (4 * f + s) (Gt (4 * e + s))) (upd Fs (4 * f + s) (Gs (4 * e + s))) Fv) : wX_load_62 post (nI f) (nI e) xm xh xo xp (n + 1) (nI s) An At As Av Gn Gt Gs Gv Lg Fo Dt Fz Fn Ft Fs Fv := by
  have i1 : vp_in (4 * nI f + nI s) 20 := by rw [cs_e4]; exact vp_in_nI (by omega) (by decide)
  have i2 : vp_in (4 * nI e + nI s) 192 := by rw [cs_e4]; exact vp_in_nI (by omega) (by decide)
  have c1 : (4 * nI f + nI s).toNatClampNeg = 4 * f + s := by rw [cs_e4]; exact nI_clamp (by omega)
  have c2 : (4 * nI e + nI s).toNatClampNeg = 4 * e + s := by rw [cs_e4]; exact nI_clamp (by omega)
  exact br_f (nI_ge (b := 4) hs (by decide)) ⟨i2, i1, nm_r (cs_up c1 c2) ⟨i2, i1, nm_r (cs_up c1 c2) ⟨i2, i1, nm_r (cs_up c1 c2) (nm_r (nI_1 s) K)⟩⟩⟩
theorem cs_ll {post : SX → Prop} {f e : Nat} (hf : f < 5) (he : e < 48) (K : post (xm, xh, xo, xp, An, At, As, Av, Gn, Gt, Gs, Gv, Lg, Fo, Dt, Fz, cs_4 Fn f Gn e, cs_4 Ft f Gt e, cs_4 Fs f Gs e, Fv)) : wX_load_62 post (nI f) (nI e) xm xh xo xp 5 0 An At As Av Gn Gt Gs Gv Lg Fo Dt Fz Fn Ft Fs Fv := by
  refine cs_ll_st (s := 0) hf he (by omega) ?_
  refine cs_ll_st (s := 1) hf he (by omega) ?_
  refine cs_ll_st (s := 2) hf he (by omega) ?_
  refine cs_ll_st (s := 3) hf he (by omega) ?_
  exact br_t (nI_le (a := 4) (b := 4) (by omega) (by omega)) K
theorem cs_load {post : SX → Prop} (R : cs_Rep (xm, xh, xo, xp, An, At, As, Av, Gn, Gt, Gs, Gv, Lg, Fo, Dt, Fz, Fn, Ft, Fs, Fv) m o p P O S) {f n : Nat} (hf : f < 5) (hn : n < 16) (hd : Dt f = 0) (hx : ∀ g, g < 5 → Fo g ≠ nI n) (K : ∀ Fn' Ft' Fs' Fv', cs_Rep (xm, xh, xo, xp, An, At, As, Av, Gn, Gt, Gs, Gv, Lg, upd Fo f (nI n), Dt, Fz, Fn', Ft', Fs', Fv') m o p P O S → post (xm, xh, xo, xp, An, At, As, Av, Gn, Gt, Gs, Gv, Lg, upd Fo f (nI n), Dt, Fz, Fn', Ft', Fs', Fv')) : wpX_load post (xm, xh, xo, xp, An, At, As, Av, Gn, Gt, Gs, Gv, Lg, Fo, Dt, Fz, Fn, Ft, Fs, Fv) (nI f) (nI n) := by
  obtain ⟨rfl, rfl, rfl, hh, hF, hN⟩ := R
  have hz := cs_Fr_f hF hf hd
  have i1 : vp_in (nI f) 5 := vp_in_nI hf (by decide)
  have c1 : (nI f).toNatClampNeg = f := nI_clamp (by omega)
  have nD : ¬ cs_D Fo Dt n := by
    rintro ⟨g, hg, e, -⟩
    exact hx g hg e
  have hP := (hN.2 n hn).2.1 nD
  have N2 := cs_N_iff (cs_D_x (x := nI n) hd) (cs_D_x (x := nI n) hz) hN
  have ed : upd Dt (nI f).toNatClampNeg (vp_nar .boolean 0) = Dt := by rw [c1, cs_b0, cs_us hd]
  have ez : upd Fz (nI f).toNatClampNeg (vp_nar .boolean 0) = Fz := by rw [c1, cs_b0, cs_us hz]
  unfold wpX_load
  refine ⟨i1, nm_r (cs_ux c1 rfl) ⟨i1, nm_r ed ⟨i1, nm_r ez ?_⟩⟩⟩
  refine cs_newest hN.1.1 hN.1.2.1 hN.1.2.2.1 hn (fun l hl h3 hH => ?_)
  by_cases c : l < 3
  · refine br_t (cs_iP' c) ?_
    have he : 16 * l + n < 48 := by omega
    have i2 : vp_in (nI (16 * l + n)) 48 := vp_in_nI he (by decide)
    have c2 : (nI (16 * l + n)).toNatClampNeg = 16 * l + n := nI_clamp (by omega)
    refine nm_r (e' := nI (16 * l + n)) (by rw [cs_iN c, cs_e16]) ⟨i2, i1, nm_r (cs_up c1 c2) ⟨5, ?_⟩⟩
    refine cs_ll hf he ?_
    refine K _ _ _ _ ⟨rfl, rfl, rfl, hh, cs_Fr_ld hF hd hn hx ?_ (fun g hg => cs_cN hg), N2⟩
    rw [cs_cS, ← h3 c, hP]
  · refine br_f (cs_iQ' c) ?_
    refine cs_loadHome hf hn ?_
    refine K _ _ _ _ ⟨rfl, rfl, rfl, hh, cs_Fr_ld hF hd hn hx ?_ (fun g hg => cs_cN hg), N2⟩
    rw [cs_cS, ← hH c, hP]
/-! ===== frameFor ===== -/
theorem cs_Rep_h (R : cs_Rep (xm, xh, xo, xp, An, At, As, Av, Gn, Gt, Gs, Gv, Lg, Fo, Dt, Fz, Fn, Ft, Fs, Fv) m o p P O S) {h : Nat} (hh : h < 5) : cs_Rep (xm, nI h, xo, xp, An, At, As, Av, Gn, Gt, Gs, Gv, Lg, Fo, Dt, Fz, Fn, Ft, Fs, Fv) m o p P O S := by
  obtain ⟨r1, r2, r3, -, hF, hN⟩ := R
  exact ⟨r1, r2, r3, ⟨h, hh, rfl⟩, hF, hN⟩
theorem cs_ff_49 {post : Int32 → SX → Prop} (R : cs_Rep (xm, xh, xo, xp, An, At, As, Av, Gn, Gt, Gs, Gv, Lg, Fo, Dt, Fz, Fn, Ft, Fs, Fv) m o p P O S) {f h n : Nat} (hf : f < 5) (hh : h < 5) (hn : n < 16) (hx : ∀ g, g < 5 → Fo g ≠ nI n) (K : ∀ f u' fo, f < 5 → cs_Rep u' m o p P O S → u'.2.2.2.2.2.2.2.2.2.2.2.2.2.1 = fo → fo f = nI n → post (nI f) u') : wX_frameFor_49 post (nI n) (nI f) (nI h) xm xh xo xp An At As Av Gn Gt Gs Gv Lg Fo Dt Fz Fn Ft Fs Fv := by
  unfold wX_frameFor_49
  refine cs_evict (cs_Rep_h R hh) hf (fun Gn' Gt' Gs' Gv' Lg' Dt' Fz' hd R' => ?_)
  refine cs_load R' hf hn hd (fun g hg => ?_) (fun Fn' Ft' Fs' Fv' R'' => ?_)
  · by_cases e : g = f
    · rw [e, pk_us]
      exact fun z => cs_nm1 (by omega) z.symm
    · rw [pk_un e]
      exact hx g hg
  · exact K f _ _ hf R'' rfl pk_us
theorem cs_ff_lp {post : Int32 → SX → Prop} (R : cs_Rep (xm, xh, xo, xp, An, At, As, Av, Gn, Gt, Gs, Gv, Lg, Fo, Dt, Fz, Fn, Ft, Fs, Fv) m o p P O S) {n : Nat} (hn : n < 16) (K : ∀ f u' fo, f < 5 → cs_Rep u' m o p P O S → u'.2.2.2.2.2.2.2.2.2.2.2.2.2.1 = fo → fo f = nI n → post (nI f) u') : ∀ d j, j + d = 5 → (∀ g, g < j → Fo g ≠ nI n) → wX_frameFor_2 post (nI n) xm xh xo xp An At As Av Gn Gt Gs Gv Lg Fo Dt Fz Fn Ft Fs Fv (d + 1) (nI j) := by
  intro d
  induction d with
  | zero =>
    intro j hj hx
    refine br_t (nI_le (a := 5) (by omega) (by omega)) ?_
    obtain ⟨h, hh, rfl⟩ : ∃ h, h < 5 ∧ xh = nI h := R.2.2.2.1
    refine pk_eq h 4 (fun e => ?_) (fun e => ?_)
    · exact cs_ff_49 (h := 0) R hh (by omega) hn (fun g hg => hx g (by omega)) K
    · rw [nI_1]
      exact cs_ff_49 (h := h + 1) R hh (by omega) hn (fun g hg => hx g (by omega)) K
  | succ d ih =>
    intro j hj hx
    have i1 : vp_in (nI j) 5 := vp_in_nI (by omega) (by decide)
    have c1 : (nI j).toNatClampNeg = j := nI_clamp (by omega)
    refine br_f (nI_ge (b := 5) (by omega) (by decide)) ⟨i1, ?_⟩
    rw [c1]
    refine br_c (fun e => ?_) (fun e => nm_r (nI_1 j) (ih (j + 1) (by omega) (fun g hg => ?_)))
    · exact K j _ _ (by omega) R rfl e
    · by_cases z : g = j
      · rw [z]
        exact e
      · exact hx g (by omega)
theorem cs_frameFor {post : Int32 → SX → Prop} {u : SX} (R : cs_Rep u m o p P O S) {n : Nat} (hn : n < 16) (K : ∀ f (xm1 xh1 xo1 xp1 : Int32) (An1 At1 As1 Av1 Gn1 Gt1 Gs1 Gv1 Lg1 Fo1 Dt1 Fz1 Fn1 Ft1 Fs1 Fv1 : Nat → Int32), f < 5 → cs_Rep (xm1, xh1, xo1, xp1, An1, At1, As1, Av1, Gn1, Gt1, Gs1, Gv1, Lg1, Fo1, Dt1, Fz1, Fn1, Ft1, Fs1, Fv1) m o p P O S → Fo1 f = nI n → post (nI f) (xm1, xh1, xo1, xp1, An1, At1, As1, Av1, Gn1, Gt1, Gs1, Gv1, Lg1, Fo1, Dt1, Fz1, Fn1, Ft1, Fs1, Fv1)) : wpX_frameFor post u (nI n) := by
  obtain ⟨xm, xh, xo, xp, An, At, As, Av, Gn, Gt, Gs, Gv, Lg, Fo, Dt, Fz, Fn, Ft, Fs, Fv⟩ := u
  refine ⟨6, cs_ff_lp R hn (fun f u' fo hf R' e1 e2 => ?_) 5 0 (by omega) (fun g hg => absurd hg (by omega))⟩
  obtain ⟨xm1, xh1, xo1, xp1, An1, At1, As1, Av1, Gn1, Gt1, Gs1, Gv1, Lg1, Fo1, Dt1, Fz1, Fn1, Ft1, Fs1, Fv1⟩ := u'
  exact K f xm1 xh1 xo1 xp1 An1 At1 As1 Av1 Gn1 Gt1 Gs1 Gv1 Lg1 Fo1 Dt1 Fz1 Fn1 Ft1 Fs1 Fv1 hf R' (by rw [← e2, ← e1])
end
end
section
/-! ===== a generation against the reference's copy ===== -/
def cs_pn (P : Nat → cs_C) (n : Nat) (c : cs_C) (k : Nat) : cs_C := if k = n then c else P k
theorem cs_pnS {P : Nat → cs_C} {n : Nat} {c : cs_C} : cs_pn P n c n = c := if_pos rfl
theorem cs_pnN {P : Nat → cs_C} {n k : Nat} {c : cs_C} (h : k ≠ n) : cs_pn P n c k = P k := if_neg h
def cs_Sl (P : Nat → cs_C) (n s : Nat) (K H : Int32) : Prop :=
  (K = 1 ∧ P n 1 s = 0 ∧ ∃ t, t < 16 ∧ P n 2 s = nI t ∧ H = nI t ∧ P n 3 s = P t 0 0) ∨
  (K = 0 ∧ P n 1 s = H ∧ (P n 2 s = -1 ∨ ∃ t a b, t < 16 ∧ P n 2 s = nI t ∧ P n 3 s = nI a ∧ P t 0 0 = nI b ∧ a < b ∧ b < 2 ^ 31))
def cs_G (k : Nat) (P : Nat → cs_C) (K H : Nat → Int32) : Prop :=
  (∀ n, n < 16 → ∃ b, b ≤ k ∧ P n 0 0 = nI b) ∧ ∀ n s, n < 16 → s < 4 → cs_Sl P n s (K (4 * n + s)) (H (4 * n + s))
section
variable {k : Nat} {P : Nat → cs_C} {K H : Nat → Int32}
theorem cs_G_up {k' : Nat} (G : cs_G k P K H) (h : k ≤ k') : cs_G k' P K H := by
  refine ⟨fun n hn => ?_, G.2⟩
  obtain ⟨b, hb, e⟩ := G.1 n hn
  exact ⟨b, by omega, e⟩
theorem cs_G_cg {K' H' : Nat → Int32} (G : cs_G k P K H) (h : ∀ i, i < 64 → K' i = K i ∧ H' i = H i) : cs_G k P K' H' := by
  refine ⟨G.1, fun n s hn hs => ?_⟩
  rw [(h (4 * n + s) (by omega)).1, (h (4 * n + s) (by omega)).2]
  exact G.2 n s hn hs
theorem cs_G_b (G : cs_G k P K H) {i : Nat} (hi : i < 64) : K i = 0 ∨ K i = 1 := by
  have e : 4 * (i / 4) + i % 4 = i := by omega
  have g := G.2 (i / 4) (i % 4) (by omega) (by omega)
  rw [e] at g
  rcases g with ⟨h, -⟩ | ⟨h, -⟩
  · exact Or.inr h
  · exact Or.inl h
/-- slots that the writing of one slot leaves -/
theorem cs_Sl_k {n : Nat} {c : cs_C} (h0 : c 0 0 = P n 0 0) {n' s' : Nat} (hs : n' ≠ n ∨ (c 1 s' = P n 1 s' ∧ c 2 s' = P n 2 s' ∧ c 3 s' = P n 3 s')) {x y : Int32} (g : cs_Sl P n' s' x y) : cs_Sl (cs_pn P n c) n' s' x y := by
  have hv : ∀ t, cs_pn P n c t 0 0 = P t 0 0 := by
    intro t
    by_cases e : t = n
    · rw [e, cs_pnS, h0]
    · rw [cs_pnN e]
  have hc : cs_pn P n c n' 1 s' = P n' 1 s' ∧ cs_pn P n c n' 2 s' = P n' 2 s' ∧ cs_pn P n c n' 3 s' = P n' 3 s' := by
    by_cases e : n' = n
    · rcases hs with z | z
      · exact absurd e z
      · rw [e, cs_pnS]
        exact z
    · rw [cs_pnN e]
      exact ⟨rfl, rfl, rfl⟩
  unfold cs_Sl
  rw [hc.1, hc.2.1, hc.2.2]
  rcases g with ⟨a, b, t, ht, e1, e2, e3⟩ | ⟨a, b, d | ⟨t, x1, x2, ht, e1, e2, e3, e4⟩⟩
  · exact Or.inl ⟨a, b, t, ht, e1, e2, by rw [e3, hv]⟩
  · exact Or.inr ⟨a, b, Or.inl d⟩
  · exact Or.inr ⟨a, b, Or.inr ⟨t, x1, x2, ht, e1, e2, by rw [hv, e3], e4⟩⟩
theorem cs_G_w {n s : Nat} {c : cs_C} {x y : Int32} (G : cs_G k P K H) (h0 : c 0 0 = P n 0 0) (hx : ∀ x, x < 4 → x ≠ s → c 1 x = P n 1 x ∧ c 2 x = P n 2 x ∧ c 3 x = P n 3 x) (hs : s < 4) (g : cs_Sl (cs_pn P n c) n s x y) : cs_G k (cs_pn P n c) (upd K (4 * n + s) x) (upd H (4 * n + s) y) := by
  refine ⟨fun t ht => ?_, fun n' s' hn' hs' => ?_⟩
  · by_cases e : t = n
    · rw [e, cs_pnS, h0]
      exact G.1 n (by omega)
    · rw [cs_pnN e]
      exact G.1 t ht
  · by_cases e : n' = n ∧ s' = s
    · rw [e.1, e.2, pk_us, pk_us]
      exact g
    · rw [pk_un (by omega), pk_un (by omega)]
      refine cs_Sl_k h0 ?_ (G.2 n' s' hn' hs')
      by_cases z : n' = n
      · exact Or.inr (hx s' hs' (fun y => e ⟨z, y⟩))
      · exact Or.inl z
theorem cs_G_num {n s : Nat} {c : cs_C} {y : Int32} (G : cs_G k P K H) (h0 : c 0 0 = P n 0 0) (hx : ∀ x, x < 4 → x ≠ s → c 1 x = P n 1 x ∧ c 2 x = P n 2 x ∧ c 3 x = P n 3 x) (hs : s < 4) (h1 : c 1 s = y) (h2 : c 2 s = -1) : cs_G k (cs_pn P n c) (upd K (4 * n + s) 0) (upd H (4 * n + s) y) :=
  cs_G_w G h0 hx hs (Or.inr ⟨rfl, by rw [cs_pnS, h1], Or.inl (by rw [cs_pnS, h2])⟩)
theorem cs_G_key {n s t : Nat} {c : cs_C} (G : cs_G k P K H) (h0 : c 0 0 = P n 0 0) (hx : ∀ x, x < 4 → x ≠ s → c 1 x = P n 1 x ∧ c 2 x = P n 2 x ∧ c 3 x = P n 3 x) (hs : s < 4) (ht : t < 16) (h1 : c 1 s = 0) (h2 : c 2 s = nI t) (h3 : c 3 s = P t 0 0) : cs_G k (cs_pn P n c) (upd K (4 * n + s) 1) (upd H (4 * n + s) (nI t)) := by
  refine cs_G_w G h0 hx hs (Or.inl ⟨rfl, by rw [cs_pnS, h1], t, ht, by rw [cs_pnS, h2], rfl, ?_⟩)
  rw [cs_pnS, h3]
  by_cases e : t = n
  · rw [e, cs_pnS, h0]
  · rw [cs_pnN e]
theorem cs_G_re {n : Nat} {c : cs_C} {K' H' : Nat → Int32} (G : cs_G k P K H) (hk : k ≤ 2560) (hn : n < 16) (h0 : c 0 0 = P n 0 0 + 1) (hx : ∀ x, x < 4 → c 1 x = 0 ∧ c 2 x = -1) (hY : ∀ i, i < 64 → ((i / 4 = n ∨ (K i ≠ 0 ∧ H i = nI n)) → K' i = 0 ∧ H' i = 0) ∧ (¬ (i / 4 = n ∨ (K i ≠ 0 ∧ H i = nI n)) → K' i = K i ∧ H' i = H i)) : cs_G (k + 5) (cs_pn P n c) K' H' := by
  refine ⟨fun t ht => ?_, fun a s ha hs => ?_⟩
  · obtain ⟨b, hb, e⟩ := G.1 t ht
    by_cases z : t = n
    · subst z
      refine ⟨b + 1, by omega, ?_⟩
      rw [cs_pnS, h0, e, nI_1]
    · rw [cs_pnN z]
      exact ⟨b, by omega, e⟩
  · obtain ⟨y1, y2⟩ := hY (4 * a + s) (by omega)
    have ed : (4 * a + s) / 4 = a := by omega
    rw [ed] at y1 y2
    by_cases z : a = n
    · obtain ⟨w1, w2⟩ := y1 (Or.inl z)
      rw [w1, w2]
      refine Or.inr ⟨rfl, ?_, Or.inl ?_⟩
      · rw [z, cs_pnS, (hx s hs).1]
      · rw [z, cs_pnS, (hx s hs).2]
    · obtain ⟨b0, hb0, e0⟩ := G.1 n hn
      have vn : cs_pn P n c n 0 0 = nI (b0 + 1) := by rw [cs_pnS, h0, e0, nI_1]
      have vt : ∀ t, t ≠ n → cs_pn P n c t 0 0 = P t 0 0 := fun t ht => by rw [cs_pnN ht]
      unfold cs_Sl
      rw [cs_pnN z]
      rcases G.2 a s ha hs with ⟨g1, g2, t, ht, e1, e2, e3⟩ | ⟨g1, g2, g3⟩
      · by_cases q : t = n
        · subst q
          obtain ⟨w1, w2⟩ := y1 (Or.inr ⟨by rw [g1]; decide, e2⟩)
          rw [w1, w2]
          exact Or.inr ⟨rfl, g2, Or.inr ⟨t, b0, b0 + 1, ht, e1, by rw [e3, e0], vn, by omega, by omega⟩⟩
        · obtain ⟨w1, w2⟩ := y2 (by
            rintro (h | ⟨-, h⟩)
            · exact z h
            · rw [e2] at h
              exact q (cs_inj (by omega) (by omega) h))
          rw [w1, w2]
          exact Or.inl ⟨g1, g2, t, ht, e1, e2, by rw [vt t q, e3]⟩
      · obtain ⟨w1, w2⟩ := y2 (by
          rintro (h | ⟨h, -⟩)
          · exact z h
          · exact h g1)
        rw [w1, w2]
        refine Or.inr ⟨g1, g2, ?_⟩
        rcases g3 with g3 | ⟨t, x1, x2, ht, f1, f2, f3, f4, f5⟩
        · exact Or.inl g3
        · refine Or.inr ?_
          by_cases q : t = n
          · subst q
            have eb : b0 = x2 := by
              rw [e0] at f3
              exact cs_inj (by omega) f5 f3
            exact ⟨t, x1, b0 + 1, ht, f1, f2, vn, by omega, by omega⟩
          · exact ⟨t, x1, x2, ht, f1, f2, by rw [vt t q, f3], f4, f5⟩
end
end
section
section
variable {xm xh xo xp : Int32} {An At As Av Gn Gt Gs Gv Lg Fo Dt Fz Fn Ft Fs Fv : Nat → Int32}
variable {m o p : Nat} {P O S : Nat → cs_C}
/-! ===== put, versionOf, numberIn, liveKey ===== -/
theorem cs_Rep_w (R : cs_Rep (xm, xh, xo, xp, An, At, As, Av, Gn, Gt, Gs, Gv, Lg, Fo, Dt, Fz, Fn, Ft, Fs, Fv) m o p P O S) {f n : Nat} (hf : f < 5) (hn : n < 16) (e : Fo f = nI n) (hd : Dt f ≠ 0) (hz : Fz f = 0) {Fn' Ft' Fs' Fv' : Nat → Int32} (hG : ∀ g, g ≠ f → cs_c Fv' Fn' Ft' Fs' g = cs_c Fv Fn Ft Fs g) : cs_Rep (xm, xh, xo, xp, An, At, As, Av, Gn, Gt, Gs, Gv, Lg, Fo, Dt, Fz, Fn', Ft', Fs', Fv') m o p (cs_pn P n (cs_c Fv' Fn' Ft' Fs' f)) O S := by
  obtain ⟨r1, r2, r3, hh, hF, hN⟩ := R
  have hj := cs_Fr_j hF hf hn e
  have nZ : ¬ cs_D Fo Fz n := by
    rintro ⟨g, hg, e', d⟩
    rw [hj g hg e'] at d
    exact d hz
  exact ⟨r1, r2, r3, hh, cs_Fr_w hF hf hn e hG (fun k hk => cs_pnN hk) cs_pnS.symm, cs_N_w hN ⟨f, hf, e, hd⟩ nZ (fun k hk => cs_pnN hk)⟩
theorem cs_at (R : cs_Rep (xm, xh, xo, xp, An, At, As, Av, Gn, Gt, Gs, Gv, Lg, Fo, Dt, Fz, Fn, Ft, Fs, Fv) m o p P O S) {f n : Nat} (hf : f < 5) (hn : n < 16) (e : Fo f = nI n) : cs_c Fv Fn Ft Fs f = P n := by
  obtain ⟨-, -, -, -, hF, -⟩ := R
  exact hF.2.2.2 f n hf hn e
theorem cs_put {post : SX → Prop} {u : SX} (R : cs_Rep u m o p P O S) {n s : Nat} (hn : n < 16) (hs : s < 4) {v t w : Int32} (K : ∀ (xm1 xh1 xo1 xp1 : Int32) (An1 At1 As1 Av1 Gn1 Gt1 Gs1 Gv1 Lg1 Fo1 Dt1 Fz1 Fn1 Ft1 Fs1 Fv1 : Nat → Int32) (c : cs_C), c 0 0 = P n 0 0 → (∀ x, x < 4 → x ≠ s → c 1 x = P n 1 x ∧ c 2 x = P n 2 x ∧ c 3 x = P n 3 x) → c 1 s = v → c 2 s = t → c 3 s = w → cs_Rep (xm1, xh1, xo1, xp1, An1, At1, As1, Av1, Gn1, Gt1, Gs1, Gv1, Lg1, Fo1, Dt1, Fz1, Fn1, Ft1, Fs1, Fv1) m o p (cs_pn P n c) O S → post (xm1, xh1, xo1, xp1, An1, At1, As1, Av1, Gn1, Gt1, Gs1, Gv1, Lg1, Fo1, Dt1, Fz1, Fn1, Ft1, Fs1, Fv1)) : wpX_put post u (nI n) (nI s) v t w := by
  obtain ⟨xm, xh, xo, xp, An, At, As, Av, Gn, Gt, Gs, Gv, Lg, Fo, Dt, Fz, Fn, Ft, Fs, Fv⟩ := u
  unfold wpX_put
  refine cs_frameFor R hn (fun f xm1 xh1 xo1 xp1 An1 At1 As1 Av1 Gn1 Gt1 Gs1 Gv1 Lg1 Fo1 Dt1 Fz1 Fn1 Ft1 Fs1 Fv1 hf R1 e1 => ?_)
  refine cs_makeWritable R1 hf hn e1 (fun Gn2 Gt2 Gs2 Gv2 Lg2 Dt2 Fz2 hd hz R2 => ?_)
  have i1 : vp_in (4 * nI f + nI s) 20 := by rw [cs_e4]; exact vp_in_nI (by omega) (by decide)
  have c1 : (4 * nI f + nI s).toNatClampNeg = 4 * f + s := by rw [cs_e4]; exact nI_clamp (by omega)
  refine ⟨i1, nm_r (cs_ux c1 rfl) ⟨i1, nm_r (cs_ux c1 rfl) ⟨i1, nm_r (cs_ux c1 rfl) ?_⟩⟩⟩
  have ea := cs_at R2 hf hn e1
  have hG : ∀ g, g ≠ f → cs_c Fv1 (upd Fn1 (4 * f + s) v) (upd Ft1 (4 * f + s) t) (upd Fs1 (4 * f + s) w) g = cs_c Fv1 Fn1 Ft1 Fs1 g := fun g hg => cs_cU rfl (fun x hx => pk_un (by omega)) (fun x hx => pk_un (by omega)) (fun x hx => pk_un (by omega))
  refine K _ _ _ _ _ _ _ _ _ _ _ _ _ _ _ _ _ _ _ _ (cs_c Fv1 (upd Fn1 (4 * f + s) v) (upd Ft1 (4 * f + s) t) (upd Fs1 (4 * f + s) w) f) ?_ (fun x hx hxs => ?_) ?_ ?_ ?_ (cs_Rep_w R2 hf hn e1 hd hz hG)
  · rw [← ea, cs_c0 (by omega), cs_c0 (by omega)]
  · rw [← ea, cs_c1 hx, cs_c2 hx, cs_c3 hx, cs_c1 hx, cs_c2 hx, cs_c3 hx, pk_un (by omega), pk_un (by omega), pk_un (by omega)]
    exact ⟨rfl, rfl, rfl⟩
  · rw [cs_c1 hs, pk_us]
  · rw [cs_c2 hs, pk_us]
  · rw [cs_c3 hs, pk_us]
theorem cs_versionOf {post : Int32 → SX → Prop} {u : SX} (R : cs_Rep u m o p P O S) {n : Nat} (hn : n < 16) (K : ∀ (xm1 xh1 xo1 xp1 : Int32) (An1 At1 As1 Av1 Gn1 Gt1 Gs1 Gv1 Lg1 Fo1 Dt1 Fz1 Fn1 Ft1 Fs1 Fv1 : Nat → Int32), cs_Rep (xm1, xh1, xo1, xp1, An1, At1, As1, Av1, Gn1, Gt1, Gs1, Gv1, Lg1, Fo1, Dt1, Fz1, Fn1, Ft1, Fs1, Fv1) m o p P O S → post (P n 0 0) (xm1, xh1, xo1, xp1, An1, At1, As1, Av1, Gn1, Gt1, Gs1, Gv1, Lg1, Fo1, Dt1, Fz1, Fn1, Ft1, Fs1, Fv1)) : wpX_versionOf post u (nI n) := by
  obtain ⟨xm, xh, xo, xp, An, At, As, Av, Gn, Gt, Gs, Gv, Lg, Fo, Dt, Fz, Fn, Ft, Fs, Fv⟩ := u
  unfold wpX_versionOf
  refine cs_frameFor R hn (fun f xm1 xh1 xo1 xp1 An1 At1 As1 Av1 Gn1 Gt1 Gs1 Gv1 Lg1 Fo1 Dt1 Fz1 Fn1 Ft1 Fs1 Fv1 hf R1 e1 => ?_)
  have i1 : vp_in (nI f) 5 := vp_in_nI hf (by decide)
  have c1 : (nI f).toNatClampNeg = f := nI_clamp (by omega)
  have ea := cs_at R1 hf hn e1
  refine ⟨i1, ?_⟩
  have ev : Fv1 (nI f).toNatClampNeg = P n 0 0 := by rw [c1, ← ea, cs_c0 (by omega)]
  rw [ev]
  exact K xm1 xh1 xo1 xp1 An1 At1 As1 Av1 Gn1 Gt1 Gs1 Gv1 Lg1 Fo1 Dt1 Fz1 Fn1 Ft1 Fs1 Fv1 R1
theorem cs_numberIn {post : Int32 → SX → Prop} {u : SX} (R : cs_Rep u m o p P O S) {n s : Nat} (hn : n < 16) (hs : s < 4) (K : ∀ (xm1 xh1 xo1 xp1 : Int32) (An1 At1 As1 Av1 Gn1 Gt1 Gs1 Gv1 Lg1 Fo1 Dt1 Fz1 Fn1 Ft1 Fs1 Fv1 : Nat → Int32), cs_Rep (xm1, xh1, xo1, xp1, An1, At1, As1, Av1, Gn1, Gt1, Gs1, Gv1, Lg1, Fo1, Dt1, Fz1, Fn1, Ft1, Fs1, Fv1) m o p P O S → post (P n 1 s) (xm1, xh1, xo1, xp1, An1, At1, As1, Av1, Gn1, Gt1, Gs1, Gv1, Lg1, Fo1, Dt1, Fz1, Fn1, Ft1, Fs1, Fv1)) : wpX_numberIn post u (nI n) (nI s) := by
  obtain ⟨xm, xh, xo, xp, An, At, As, Av, Gn, Gt, Gs, Gv, Lg, Fo, Dt, Fz, Fn, Ft, Fs, Fv⟩ := u
  unfold wpX_numberIn
  refine cs_frameFor R hn (fun f xm1 xh1 xo1 xp1 An1 At1 As1 Av1 Gn1 Gt1 Gs1 Gv1 Lg1 Fo1 Dt1 Fz1 Fn1 Ft1 Fs1 Fv1 hf R1 e1 => ?_)
  have i1 : vp_in (4 * nI f + nI s) 20 := by rw [cs_e4]; exact vp_in_nI (by omega) (by decide)
  have c1 : (4 * nI f + nI s).toNatClampNeg = 4 * f + s := by rw [cs_e4]; exact nI_clamp (by omega)
  have ea := cs_at R1 hf hn e1
  refine ⟨i1, ?_⟩
  have ev : Fn1 (4 * nI f + nI s).toNatClampNeg = P n 1 s := by rw [c1, ← ea, cs_c1 hs]
  rw [ev]
  exact K xm1 xh1 xo1 xp1 An1 At1 As1 Av1 Gn1 Gt1 Gs1 Gv1 Lg1 Fo1 Dt1 Fz1 Fn1 Ft1 Fs1 Fv1 R1
theorem cs_liveKey {post : Int32 → SX → Prop} {u : SX} (R : cs_Rep u m o p P O S) {n s : Nat} (hn : n < 16) (hs : s < 4) {x y : Int32} (g : cs_Sl P n s x y) (A : x = 0 → P n 1 s = y → ∀ (xm1 xh1 xo1 xp1 : Int32) (An1 At1 As1 Av1 Gn1 Gt1 Gs1 Gv1 Lg1 Fo1 Dt1 Fz1 Fn1 Ft1 Fs1 Fv1 : Nat → Int32), cs_Rep (xm1, xh1, xo1, xp1, An1, At1, As1, Av1, Gn1, Gt1, Gs1, Gv1, Lg1, Fo1, Dt1, Fz1, Fn1, Ft1, Fs1, Fv1) m o p P O S → post (-1) (xm1, xh1, xo1, xp1, An1, At1, As1, Av1, Gn1, Gt1, Gs1, Gv1, Lg1, Fo1, Dt1, Fz1, Fn1, Ft1, Fs1, Fv1)) (B : ∀ t, t < 16 → x = 1 → P n 1 s = 0 → y = nI t → ∀ (xm1 xh1 xo1 xp1 : Int32) (An1 At1 As1 Av1 Gn1 Gt1 Gs1 Gv1 Lg1 Fo1 Dt1 Fz1 Fn1 Ft1 Fs1 Fv1 : Nat → Int32), cs_Rep (xm1, xh1, xo1, xp1, An1, At1, As1, Av1, Gn1, Gt1, Gs1, Gv1, Lg1, Fo1, Dt1, Fz1, Fn1, Ft1, Fs1, Fv1) m o p P O S → post (nI t) (xm1, xh1, xo1, xp1, An1, At1, As1, Av1, Gn1, Gt1, Gs1, Gv1, Lg1, Fo1, Dt1, Fz1, Fn1, Ft1, Fs1, Fv1)) : wpX_liveKey post u (nI n) (nI s) := by
  obtain ⟨xm, xh, xo, xp, An, At, As, Av, Gn, Gt, Gs, Gv, Lg, Fo, Dt, Fz, Fn, Ft, Fs, Fv⟩ := u
  unfold wpX_liveKey
  refine cs_frameFor R hn (fun f xm1 xh1 xo1 xp1 An1 At1 As1 Av1 Gn1 Gt1 Gs1 Gv1 Lg1 Fo1 Dt1 Fz1 Fn1 Ft1 Fs1 Fv1 hf R1 e1 => ?_)
  have i1 : vp_in (4 * nI f + nI s) 20 := by rw [cs_e4]; exact vp_in_nI (by omega) (by decide)
  have c1 : (4 * nI f + nI s).toNatClampNeg = 4 * f + s := by rw [cs_e4]; exact nI_clamp (by omega)
  have ea := cs_at R1 hf hn e1
  have et : Ft1 (4 * nI f + nI s).toNatClampNeg = P n 2 s := by rw [c1, ← ea, cs_c2 hs]
  have es : Fs1 (4 * nI f + nI s).toNatClampNeg = P n 3 s := by rw [c1, ← ea, cs_c3 hs]
  refine ⟨i1, nm_r et ⟨i1, nm_r es ?_⟩⟩
  rcases g with ⟨g1, g2, t, ht, f1, f2, f3⟩ | ⟨g1, g2, f1 | ⟨t, a, b, ht, f1, f2, f3, f4, f5⟩⟩
  · rw [f1]
    refine br_t (nI_pos' (by omega)) ?_
    exact cs_versionOf R1 ht (fun xm2 xh2 xo2 xp2 An2 At2 As2 Av2 Gn2 Gt2 Gs2 Gv2 Lg2 Fo2 Dt2 Fz2 Fn2 Ft2 Fs2 Fv2 R2 => br_t f3.symm (B t ht g1 g2 f2 xm2 xh2 xo2 xp2 An2 At2 As2 Av2 Gn2 Gt2 Gs2 Gv2 Lg2 Fo2 Dt2 Fz2 Fn2 Ft2 Fs2 Fv2 R2))
  · rw [f1]
    exact br_f (by decide) (A g1 g2 xm1 xh1 xo1 xp1 An1 At1 As1 Av1 Gn1 Gt1 Gs1 Gv1 Lg1 Fo1 Dt1 Fz1 Fn1 Ft1 Fs1 Fv1 R1)
  · rw [f1]
    refine br_t (nI_pos' (by omega)) ?_
    refine cs_versionOf R1 ht (fun xm2 xh2 xo2 xp2 An2 At2 As2 Av2 Gn2 Gt2 Gs2 Gv2 Lg2 Fo2 Dt2 Fz2 Fn2 Ft2 Fs2 Fv2 R2 => br_f ?_ (A g1 g2 xm2 xh2 xo2 xp2 An2 At2 As2 Av2 Gn2 Gt2 Gs2 Gv2 Lg2 Fo2 Dt2 Fz2 Fn2 Ft2 Fs2 Fv2 R2))
    rw [f2, f3]
    intro z
    have := cs_inj f5 (by omega) z
    omega
end
end
section
section
variable {xm xh xo xp : Int32} {An At As Av Gn Gt Gs Gv Lg Fo Dt Fz Fn Ft Fs Fv : Nat → Int32}
variable {m o p : Nat} {P O S : Nat → cs_C}
/-! ===== copyHome, moveHome ===== -/
theorem cs_ch_st {post : SX → Prop} {e i s n : Nat} (he : e < 48) (hi : i < 16) (hs : s < 4) (K : wX_copyHome_14 post (nI e) (nI i) xm xh xo xp n (nI (s + 1)) (upd An (4 * i + s) (Gn (4 * e + s))) (upd At (4 * i + s) (Gt (4 * e + s))) (upd As (4 * i + s) (Gs (4 * e + s))) Av Gn Gt Gs Gv Lg Fo Dt Fz Fn Ft Fs Fv) : wX_copyHome_14 post (nI e) (nI i) xm xh xo xp (n + 1) (nI s) An At As Av Gn Gt Gs Gv Lg Fo Dt Fz Fn Ft Fs Fv := by
  have i1 : vp_in (4 * nI e + nI s) 192 := by rw [cs_e4]; exact vp_in_nI (by omega) (by decide)
  have i2 : vp_in (4 * nI i + nI s) 64 := by rw [cs_e4]; exact vp_in_nI (by omega) (by decide)
  have c1 : (4 * nI e + nI s).toNatClampNeg = 4 * e + s := by rw [cs_e4]; exact nI_clamp (by omega)
  have c2 : (4 * nI i + nI s).toNatClampNeg = 4 * i + s := by rw [cs_e4]; exact nI_clamp (by omega)
  exact br_f (nI_ge (b := 4) hs (by decide)) ⟨i1, i2, nm_r (cs_up c2 c1) ⟨i1, i2, nm_r (cs_up c2 c1) ⟨i1, i2, nm_r (cs_up c2 c1) (nm_r (nI_1 s) K)⟩⟩⟩
theorem cs_copyHome {post : SX → Prop} {e i : Nat} (he : e < 48) (hi : i < 16) (K : post (xm, xh, xo, xp, cs_4 An i Gn e, cs_4 At i Gt e, cs_4 As i Gs e, upd Av i (Gv e), Gn, Gt, Gs, Gv, Lg, Fo, Dt, Fz, Fn, Ft, Fs, Fv)) : wpX_copyHome post (xm, xh, xo, xp, An, At, As, Av, Gn, Gt, Gs, Gv, Lg, Fo, Dt, Fz, Fn, Ft, Fs, Fv) (nI e) (nI i) := by
  have i1 : vp_in (nI e) 48 := vp_in_nI he (by decide)
  have c1 : (nI e).toNatClampNeg = e := nI_clamp (by omega)
  have i2 : vp_in (nI i) 16 := vp_in_nI hi (by decide)
  have c2 : (nI i).toNatClampNeg = i := nI_clamp (by omega)
  refine ⟨i1, i2, nm_r (cs_up c2 c1) ⟨5, ?_⟩⟩
  refine cs_ch_st (s := 0) he hi (by omega) ?_
  refine cs_ch_st (s := 1) he hi (by omega) ?_
  refine cs_ch_st (s := 2) he hi (by omega) ?_
  refine cs_ch_st (s := 3) he hi (by omega) ?_
  exact br_t (nI_le (a := 4) (b := 4) (by omega) (by omega)) K
theorem cs_mh_lp {post : SX → Prop} {x : Int32} (hm : m < 3) (K : ∀ m' An' At' As' Av' Lg', cs_Rep (cs_i m', xh, xo, xp, An', At', As', Av', Gn, Gt, Gs, Gv, Lg', Fo, Dt, Fz, Fn, Ft, Fs, Fv) m' o p P O S → (x = 16 → m' < 3 → ∀ n, n < 16 → Lg' (16 * m' + n) = 0) → post (cs_i m', xh, xo, xp, An', At', As', Av', Gn, Gt, Gs, Gv, Lg', Fo, Dt, Fz, Fn, Ft, Fs, Fv)) : ∀ d j i An' At' As' Av' Lg', j + d = 16 → i ≤ j → cs_Rep (cs_i m, xh, xo, xp, An', At', As', Av', Gn, Gt, Gs, Gv, Lg', Fo, Dt, Fz, Fn, Ft, Fs, Fv) m o p P O S → (∀ k, k < j → Lg' (16 * m + k) = 0) → wX_moveHome_12 post x (d + 1) (nI i) (nI j) (cs_i m) xh xo xp An' At' As' Av' Gn Gt Gs Gv Lg' Fo Dt Fz Fn Ft Fs Fv := by
  intro d
  induction d with
  | zero =>
    intro j i An' At' As' Av' Lg' hj hij R h0
    have h0' : ∀ n, n < 16 → Lg' (16 * m + n) = 0 := fun n hn => h0 n (by omega)
    refine br_t (nI_le (a := 16) (by omega) (by omega)) ?_
    refine br_c (fun z => K m _ _ _ _ _ R (fun _ _ => h0')) (fun z => ?_)
    obtain ⟨r1, r2, r3, hh, hF, hN⟩ := R
    exact K 3 _ _ _ _ _ ⟨rfl, r2, r3, hh, hF, cs_N_m3 hN h0'⟩ (fun _ h => absurd h (by decide))
  | succ d ih =>
    intro j i An' At' As' Av' Lg' hj hij R h0
    refine br_f (nI_ge (b := 16) (by omega) (by decide)) (br_c (fun z => br_t z (K m _ _ _ _ _ R (fun y => ?_))) (fun z => ?_))
    · rw [y] at z
      exact absurd z (nI_ge (b := 16) (by omega) (by decide))
    · have he : 16 * m + j < 48 := by omega
      have i1 : vp_in (nI (16 * m + j)) 48 := vp_in_nI he (by decide)
      have c1 : (nI (16 * m + j)).toNatClampNeg = 16 * m + j := nI_clamp (by omega)
      refine nm_r (e' := nI (16 * m + j)) (by rw [cs_iN hm, cs_e16]) ⟨i1, ?_⟩
      rw [c1]
      refine br_c (fun y => nm_r (nI_1 j) ?_) (fun y => ?_)
      · refine ih (j + 1) i An' At' As' Av' Lg' (by omega) (by omega) R (fun k hk => ?_)
        by_cases e : k = j
        · rw [e]
          exact y
        · exact h0 k (by omega)
      · refine cs_copyHome he (by omega) ?_
        refine ⟨i1, nm_r (e' := upd Lg' (16 * m + j) 0) rfl (nm_r (nI_1 i) (nm_r (nI_1 j) ?_))⟩
        refine ih (j + 1) (i + 1) _ _ _ _ _ (by omega) (by omega) ?_ (fun k hk => ?_)
        · obtain ⟨r1, r2, r3, hh, hF, hN⟩ := R
          exact ⟨r1, r2, r3, hh, hF, cs_N_mh hN (n := j) (by omega) hm y (fun g hg => cs_cN hg) cs_cS⟩
        · by_cases e : k = j
          · rw [e, pk_us]
          · rw [pk_un (by omega)]
            exact h0 k (by omega)
theorem cs_moveHome {post : SX → Prop} {x : Int32} (R : cs_Rep (xm, xh, xo, xp, An, At, As, Av, Gn, Gt, Gs, Gv, Lg, Fo, Dt, Fz, Fn, Ft, Fs, Fv) m o p P O S) (K : ∀ m' An' At' As' Av' Lg', cs_Rep (cs_i m', xh, xo, xp, An', At', As', Av', Gn, Gt, Gs, Gv, Lg', Fo, Dt, Fz, Fn, Ft, Fs, Fv) m' o p P O S → (x = 16 → m' < 3 → ∀ n, n < 16 → Lg' (16 * m' + n) = 0) → post (cs_i m', xh, xo, xp, An', At', As', Av', Gn, Gt, Gs, Gv, Lg', Fo, Dt, Fz, Fn, Ft, Fs, Fv)) : wpX_moveHome post (xm, xh, xo, xp, An, At, As, Av, Gn, Gt, Gs, Gv, Lg, Fo, Dt, Fz, Fn, Ft, Fs, Fv) x := by
  have e : xm = cs_i m := R.1
  subst e
  unfold wpX_moveHome
  by_cases c : m < 3
  · exact br_t (cs_iP' c) ⟨17, cs_mh_lp c K 16 0 0 An At As Av Lg (by omega) (by omega) R (fun k hk => absurd hk (by omega))⟩
  · exact br_f (cs_iQ' c) (K m _ _ _ _ _ R (fun _ h => absurd h c))
/-! ===== settle, idle, snapshot, rescind ===== -/
theorem cs_se_lp {post : Int32 → SX → Prop} (ho : o < 3) (K : ∀ (xm1 xh1 xo1 xp1 : Int32) (An1 At1 As1 Av1 Gn1 Gt1 Gs1 Gv1 Lg1 Fo1 Dt1 Fz1 Fn1 Ft1 Fs1 Fv1 : Nat → Int32), cs_Rep (xm1, xh1, xo1, xp1, An1, At1, As1, Av1, Gn1, Gt1, Gs1, Gv1, Lg1, Fo1, Dt1, Fz1, Fn1, Ft1, Fs1, Fv1) o 3 p P O O → post 0 (xm1, xh1, xo1, xp1, An1, At1, As1, Av1, Gn1, Gt1, Gs1, Gv1, Lg1, Fo1, Dt1, Fz1, Fn1, Ft1, Fs1, Fv1)) : ∀ d j Gn' Gt' Gs' Gv' Lg' Dt' Fz', j + d = 5 → cs_Rep (xm, xh, xo, xp, An, At, As, Av, Gn', Gt', Gs', Gv', Lg', Fo, Dt', Fz', Fn, Ft, Fs, Fv) m o p P O S → (∀ f, f < j → Fz' f = 0) → wX_settle_11 post (d + 1) (nI j) xm xh xo xp An At As Av Gn' Gt' Gs' Gv' Lg' Fo Dt' Fz' Fn Ft Fs Fv := by
  intro d
  induction d with
  | zero =>
    intro j Gn' Gt' Gs' Gv' Lg' Dt' Fz' hj R h0
    refine br_t (nI_le (a := 5) (by omega) (by omega)) ?_
    refine cs_moveHome R (fun m' An' At' As' Av' Lg2 R' hc => ?_)
    refine K _ _ _ _ _ _ _ _ _ _ _ _ _ _ _ _ _ _ _ _ ?_
    obtain ⟨r1, r2, r3, hh, hF, hN⟩ := R'
    exact ⟨r2, rfl, r3, hh, hF, cs_N_se hN ho (cs_D_re (fun f hf => h0 f (by omega))) (hc rfl)⟩
  | succ d ih =>
    intro j Gn' Gt' Gs' Gv' Lg' Dt' Fz' hj R h0
    have i1 : vp_in (nI j) 5 := vp_in_nI (by omega) (by decide)
    have c1 : (nI j).toNatClampNeg = j := nI_clamp (by omega)
    refine br_f (nI_ge (b := 5) (by omega) (by decide)) ⟨i1, ?_⟩
    rw [c1]
    refine br_c (fun y => nm_r (nI_1 j) ?_) (fun y => ?_)
    · refine ih (j + 1) _ _ _ _ _ _ _ (by omega) R (fun f hf => ?_)
      by_cases e : f = j
      · rw [e]
        exact y
      · exact h0 f (by omega)
    · refine cs_saveFrozen R (by omega) y (fun Gn2 Gt2 Gs2 Gv2 Lg2 R2 => nm_r (nI_1 j) ?_)
      refine ih (j + 1) _ _ _ _ _ _ _ (by omega) R2 (fun f hf => ?_)
      by_cases e : f = j
      · rw [e, pk_us]
      · rw [pk_un e]
        exact h0 f (by omega)
theorem cs_settle {post : Int32 → SX → Prop} {u : SX} (R : cs_Rep u m o p P O S) (ho : o < 3) (K : ∀ (xm1 xh1 xo1 xp1 : Int32) (An1 At1 As1 Av1 Gn1 Gt1 Gs1 Gv1 Lg1 Fo1 Dt1 Fz1 Fn1 Ft1 Fs1 Fv1 : Nat → Int32), cs_Rep (xm1, xh1, xo1, xp1, An1, At1, As1, Av1, Gn1, Gt1, Gs1, Gv1, Lg1, Fo1, Dt1, Fz1, Fn1, Ft1, Fs1, Fv1) o 3 p P O O → post 0 (xm1, xh1, xo1, xp1, An1, At1, As1, Av1, Gn1, Gt1, Gs1, Gv1, Lg1, Fo1, Dt1, Fz1, Fn1, Ft1, Fs1, Fv1)) : wpX_settle post u := by
  obtain ⟨xm, xh, xo, xp, An, At, As, Av, Gn, Gt, Gs, Gv, Lg, Fo, Dt, Fz, Fn, Ft, Fs, Fv⟩ := u
  have e : xo = cs_i o := R.2.1
  subst e
  exact br_t (cs_iP' ho) ⟨6, cs_se_lp ho K 5 0 Gn Gt Gs Gv Lg Dt Fz (by omega) R (fun f hf => absurd hf (by omega))⟩
theorem cs_id_32 {post : SX → Prop} {x : Int32} (R : cs_Rep (xm, xh, xo, xp, An, At, As, Av, Gn, Gt, Gs, Gv, Lg, Fo, Dt, Fz, Fn, Ft, Fs, Fv) m o p P O S) (K : ∀ m' (xm1 xh1 xo1 xp1 : Int32) (An1 At1 As1 Av1 Gn1 Gt1 Gs1 Gv1 Lg1 Fo1 Dt1 Fz1 Fn1 Ft1 Fs1 Fv1 : Nat → Int32), cs_Rep (xm1, xh1, xo1, xp1, An1, At1, As1, Av1, Gn1, Gt1, Gs1, Gv1, Lg1, Fo1, Dt1, Fz1, Fn1, Ft1, Fs1, Fv1) m' o p P O S → post (xm1, xh1, xo1, xp1, An1, At1, As1, Av1, Gn1, Gt1, Gs1, Gv1, Lg1, Fo1, Dt1, Fz1, Fn1, Ft1, Fs1, Fv1)) : wX_idle_32 post x xm xh xo xp An At As Av Gn Gt Gs Gv Lg Fo Dt Fz Fn Ft Fs Fv := by
  unfold wX_idle_32
  exact cs_moveHome R (fun m' An' At' As' Av' Lg2 R' _ => K m' _ _ _ _ _ _ _ _ _ _ _ _ _ _ _ _ _ _ _ _ R')
theorem cs_id_lp {post : SX → Prop} {x : Int32} (K : ∀ m' (xm1 xh1 xo1 xp1 : Int32) (An1 At1 As1 Av1 Gn1 Gt1 Gs1 Gv1 Lg1 Fo1 Dt1 Fz1 Fn1 Ft1 Fs1 Fv1 : Nat → Int32), cs_Rep (xm1, xh1, xo1, xp1, An1, At1, As1, Av1, Gn1, Gt1, Gs1, Gv1, Lg1, Fo1, Dt1, Fz1, Fn1, Ft1, Fs1, Fv1) m' o p P O S → post (xm1, xh1, xo1, xp1, An1, At1, As1, Av1, Gn1, Gt1, Gs1, Gv1, Lg1, Fo1, Dt1, Fz1, Fn1, Ft1, Fs1, Fv1)) : ∀ d j Gn' Gt' Gs' Gv' Lg' Dt' Fz', j + d = 5 → cs_Rep (xm, xh, xo, xp, An, At, As, Av, Gn', Gt', Gs', Gv', Lg', Fo, Dt', Fz', Fn, Ft, Fs, Fv) m o p P O S → wX_idle_2 post x (d + 1) (nI j) xm xh xo xp An At As Av Gn' Gt' Gs' Gv' Lg' Fo Dt' Fz' Fn Ft Fs Fv := by
  intro d
  induction d with
  | zero =>
    intro j Gn' Gt' Gs' Gv' Lg' Dt' Fz' hj R
    exact br_t (nI_le (a := 5) (by omega) (by omega)) (cs_id_32 R K)
  | succ d ih =>
    intro j Gn' Gt' Gs' Gv' Lg' Dt' Fz' hj R
    have i1 : vp_in (nI j) 5 := vp_in_nI (by omega) (by decide)
    have c1 : (nI j).toNatClampNeg = j := nI_clamp (by omega)
    refine br_f (nI_ge (b := 5) (by omega) (by decide)) (br_c (fun _ => cs_id_32 R K) (fun _ => ⟨i1, ?_⟩))
    rw [c1]
    refine br_c (fun y => nm_r (nI_1 j) ?_) (fun y => ?_)
    · exact ih (j + 1) _ _ _ _ _ _ _ (by omega) R
    · refine cs_saveFrozen R (by omega) y (fun Gn2 Gt2 Gs2 Gv2 Lg2 R2 => nm_r (nI_1 j) ?_)
      exact ih (j + 1) _ _ _ _ _ _ _ (by omega) R2
theorem cs_idle {post : SX → Prop} {u : SX} {x : Int32} (R : cs_Rep u m o p P O S) (K : ∀ m' (xm1 xh1 xo1 xp1 : Int32) (An1 At1 As1 Av1 Gn1 Gt1 Gs1 Gv1 Lg1 Fo1 Dt1 Fz1 Fn1 Ft1 Fs1 Fv1 : Nat → Int32), cs_Rep (xm1, xh1, xo1, xp1, An1, At1, As1, Av1, Gn1, Gt1, Gs1, Gv1, Lg1, Fo1, Dt1, Fz1, Fn1, Ft1, Fs1, Fv1) m' o p P O S → post (xm1, xh1, xo1, xp1, An1, At1, As1, Av1, Gn1, Gt1, Gs1, Gv1, Lg1, Fo1, Dt1, Fz1, Fn1, Ft1, Fs1, Fv1)) : wpX_idle post u x := by
  obtain ⟨xm, xh, xo, xp, An, At, As, Av, Gn, Gt, Gs, Gv, Lg, Fo, Dt, Fz, Fn, Ft, Fs, Fv⟩ := u
  exact ⟨6, cs_id_lp K 5 0 Gn Gt Gs Gv Lg Dt Fz (by omega) R⟩
theorem cs_sn_lp {post : Int32 → SX → Prop} (R : cs_Rep (xm, xh, xo, xp, An, At, As, Av, Gn, Gt, Gs, Gv, Lg, Fo, Dt, Fz, Fn, Ft, Fs, Fv) m o p P O S) (ho : ¬ o < 3) (K : ∀ q (xm1 xh1 xo1 xp1 : Int32) (An1 At1 As1 Av1 Gn1 Gt1 Gs1 Gv1 Lg1 Fo1 Dt1 Fz1 Fn1 Ft1 Fs1 Fv1 : Nat → Int32), cs_Rep (xm1, xh1, xo1, xp1, An1, At1, As1, Av1, Gn1, Gt1, Gs1, Gv1, Lg1, Fo1, Dt1, Fz1, Fn1, Ft1, Fs1, Fv1) m p q P P S → post 0 (xm1, xh1, xo1, xp1, An1, At1, As1, Av1, Gn1, Gt1, Gs1, Gv1, Lg1, Fo1, Dt1, Fz1, Fn1, Ft1, Fs1, Fv1)) : ∀ d j fz, j + d = 5 → (∀ f, f < j → fz f = Dt f) → wX_snapshot_11 post xm xh xo xp (d + 1) (nI j) An At As Av Gn Gt Gs Gv Lg Fo Dt fz Fn Ft Fs Fv := by
  intro d
  induction d with
  | zero =>
    intro j fz hj h
    have h' : ∀ f, f < 5 → fz f = Dt f := fun f hf => h f (by omega)
    obtain ⟨rfl, rfl, rfl, hh, hF, hN⟩ := R
    have hp := hN.1.2.2.1
    refine br_t (nI_le (a := 5) (by omega) (by omega)) ?_
    rw [← cs_iN hp]
    refine cs_unused hN.1.1 (by omega) (fun q hq hqm hqp => ?_)
    refine cs_clear hq (fun lg' h0 hs => ?_)
    refine K q _ _ _ _ _ _ _ _ _ _ _ _ _ _ _ _ _ _ _ _ ⟨rfl, rfl, rfl, hh, cs_Fr_sn hF h', ?_⟩
    exact cs_N_iff (fun _ _ => Iff.rfl) (cs_D_sn h') (cs_N_sn hN ho hq hqm hqp h0 hs)
  | succ d ih =>
    intro j fz hj h
    have i1 : vp_in (nI j) 5 := vp_in_nI (by omega) (by decide)
    have c1 : (nI j).toNatClampNeg = j := nI_clamp (by omega)
    have hb : Dt (nI j).toNatClampNeg = 0 ∨ Dt (nI j).toNatClampNeg = 1 := by
      rw [c1]
      obtain ⟨-, -, -, -, hF, -⟩ := R
      exact (hF.2.2.1 j (by omega)).1
    refine br_f (nI_ge (b := 5) (by omega) (by decide)) ⟨i1, i1, nm_r (e' := upd fz j (Dt j)) (by rw [cs_bb hb, c1]) (nm_r (nI_1 j) ?_)⟩
    refine ih (j + 1) (upd fz j (Dt j)) (by omega) (fun f hf => ?_)
    by_cases e : f = j
    · rw [e, pk_us]
    · rw [pk_un e]
      exact h f (by omega)
theorem cs_snapshot {post : Int32 → SX → Prop} {u : SX} (R : cs_Rep u m o p P O S) (ho : ¬ o < 3) (K : ∀ q (xm1 xh1 xo1 xp1 : Int32) (An1 At1 As1 Av1 Gn1 Gt1 Gs1 Gv1 Lg1 Fo1 Dt1 Fz1 Fn1 Ft1 Fs1 Fv1 : Nat → Int32), cs_Rep (xm1, xh1, xo1, xp1, An1, At1, As1, Av1, Gn1, Gt1, Gs1, Gv1, Lg1, Fo1, Dt1, Fz1, Fn1, Ft1, Fs1, Fv1) m p q P P S → post 0 (xm1, xh1, xo1, xp1, An1, At1, As1, Av1, Gn1, Gt1, Gs1, Gv1, Lg1, Fo1, Dt1, Fz1, Fn1, Ft1, Fs1, Fv1)) : wpX_snapshot post u := by
  obtain ⟨xm, xh, xo, xp, An, At, As, Av, Gn, Gt, Gs, Gv, Lg, Fo, Dt, Fz, Fn, Ft, Fs, Fv⟩ := u
  have e : xo = cs_i o := R.2.1
  refine br_t (by rw [e]; exact cs_iQ ho) ⟨6, cs_sn_lp R ho K 5 0 Fz (by omega) (fun f hf => absurd hf (by omega))⟩
theorem cs_rs_st {post : Int32 → SX → Prop} {f s n : Nat} (hf : f < 5) (hs : s < 4) (K : wX_rescind_37 post (nI f) xm xh xo xp n (nI (4 * f + s + 1)) An At As Av Gn Gt Gs Gv Lg Fo Dt Fz (upd Fn (4 * f + s) 0) (upd Ft (4 * f + s) (-1)) (upd Fs (4 * f + s) 0) Fv) : wX_rescind_37 post (nI f) xm xh xo xp (n + 1) (nI (4 * f + s)) An At As Av Gn Gt Gs Gv Lg Fo Dt Fz Fn Ft Fs Fv := by
  have i1 : vp_in (nI (4 * f + s)) 20 := vp_in_nI (by omega) (by decide)
  have c1 : (nI (4 * f + s)).toNatClampNeg = 4 * f + s := nI_clamp (by omega)
  have h : ¬ 4 * nI f + 4 ≤ nI (4 * f + s) := by rw [cs_e44]; exact nI_ge (by omega) (by omega)
  exact br_f h ⟨i1, nm_r (cs_ux c1 rfl) ⟨i1, nm_r (cs_ux c1 rfl) ⟨i1, nm_r (cs_ux c1 rfl) (nm_r (nI_1 (4 * f + s)) K)⟩⟩⟩
theorem cs_rs {post : Int32 → SX → Prop} {f : Nat} (hf : f < 5) (K : post 0 (xm, xh, xo, xp, An, At, As, Av, Gn, Gt, Gs, Gv, Lg, Fo, Dt, Fz, cs_4 Fn f (fun _ => 0) 0, cs_4 Ft f (fun _ => -1) 0, cs_4 Fs f (fun _ => 0) 0, Fv)) : wX_rescind_37 post (nI f) xm xh xo xp 5 (nI (4 * f)) An At As Av Gn Gt Gs Gv Lg Fo Dt Fz Fn Ft Fs Fv := by
  refine cs_rs_st (s := 0) hf (by omega) ?_
  refine cs_rs_st (s := 1) hf (by omega) ?_
  refine cs_rs_st (s := 2) hf (by omega) ?_
  refine cs_rs_st (s := 3) hf (by omega) ?_
  have h : 4 * nI f + 4 ≤ nI (4 * f + 3 + 1) := by rw [cs_e44]; exact nI_le (by omega) (by omega)
  exact br_t h K
theorem cs_rescind {post : Int32 → SX → Prop} {u : SX} (R : cs_Rep u m o p P O S) {n : Nat} (hn : n < 16) (K : ∀ (xm1 xh1 xo1 xp1 : Int32) (An1 At1 As1 Av1 Gn1 Gt1 Gs1 Gv1 Lg1 Fo1 Dt1 Fz1 Fn1 Ft1 Fs1 Fv1 : Nat → Int32) (c : cs_C), c 0 0 = P n 0 0 + 1 → (∀ x, x < 4 → c 1 x = 0 ∧ c 2 x = -1) → cs_Rep (xm1, xh1, xo1, xp1, An1, At1, As1, Av1, Gn1, Gt1, Gs1, Gv1, Lg1, Fo1, Dt1, Fz1, Fn1, Ft1, Fs1, Fv1) m o p (cs_pn P n c) O S → post 0 (xm1, xh1, xo1, xp1, An1, At1, As1, Av1, Gn1, Gt1, Gs1, Gv1, Lg1, Fo1, Dt1, Fz1, Fn1, Ft1, Fs1, Fv1)) : wpX_rescind post u (nI n) := by
  obtain ⟨xm, xh, xo, xp, An, At, As, Av, Gn, Gt, Gs, Gv, Lg, Fo, Dt, Fz, Fn, Ft, Fs, Fv⟩ := u
  unfold wpX_rescind
  refine br_f (nI_pos (by omega)) (br_t (nI_le (b := 15) (by omega) (by decide)) ?_)
  refine cs_frameFor R hn (fun f xm1 xh1 xo1 xp1 An1 At1 As1 Av1 Gn1 Gt1 Gs1 Gv1 Lg1 Fo1 Dt1 Fz1 Fn1 Ft1 Fs1 Fv1 hf R1 e1 => ?_)
  refine cs_makeWritable R1 hf hn e1 (fun Gn2 Gt2 Gs2 Gv2 Lg2 Dt2 Fz2 hd hz R2 => ?_)
  have i1 : vp_in (nI f) 5 := vp_in_nI hf (by decide)
  have c1 : (nI f).toNatClampNeg = f := nI_clamp (by omega)
  have ea := cs_at R2 hf hn e1
  refine ⟨i1, i1, nm_r (e' := upd Fv1 f (Fv1 f + 1)) (by rw [c1]) (nm_r (cs_e4' f) ⟨5, ?_⟩)⟩
  refine cs_rs hf ?_
  have hG : ∀ g, g ≠ f → cs_c (upd Fv1 f (Fv1 f + 1)) (cs_4 Fn1 f (fun _ => 0) 0) (cs_4 Ft1 f (fun _ => -1) 0) (cs_4 Fs1 f (fun _ => 0) 0) g = cs_c Fv1 Fn1 Ft1 Fs1 g := fun g hg => cs_cU (pk_un hg) (fun x hx => cs_4n hx hg) (fun x hx => cs_4n hx hg) (fun x hx => cs_4n hx hg)
  refine K _ _ _ _ _ _ _ _ _ _ _ _ _ _ _ _ _ _ _ _ (cs_c (upd Fv1 f (Fv1 f + 1)) (cs_4 Fn1 f (fun _ => 0) 0) (cs_4 Ft1 f (fun _ => -1) 0) (cs_4 Fs1 f (fun _ => 0) 0) f) ?_ (fun x hx => ?_) (cs_Rep_w R2 hf hn e1 hd hz hG)
  · rw [← ea, cs_c0 (by omega), cs_c0 (by omega), pk_us]
  · rw [cs_c1 hx, cs_c2 hx, cs_4s hx, cs_4s hx]
    exact ⟨rfl, rfl⟩
end
end
section
/-! ===== keysTo: the count ===== -/
def cs_n (K H : Nat → Int32) (t : Nat) : Nat → Nat
  | 0 => 0
  | j + 1 => cs_n K H t j + (if K j ≠ 0 ∧ H j = nI t then 1 else 0)
theorem cs_nY {K H : Nat → Int32} {t j : Nat} (h : K j ≠ 0 ∧ H j = nI t) : cs_n K H t (j + 1) = cs_n K H t j + 1 := by
  rw [cs_n, if_pos h]
theorem cs_nN {K H : Nat → Int32} {t j : Nat} (h : ¬ (K j ≠ 0 ∧ H j = nI t)) : cs_n K H t (j + 1) = cs_n K H t j := by
  rw [cs_n, if_neg h, Nat.add_zero]
theorem cs_Sl_n {P : Nat → cs_C} {n s t : Nat} {x y : Int32} (g : cs_Sl P n s x y) (ht : t < 16) : (P n 2 s = nI t ∧ P n 3 s = P t 0 0) ↔ (x ≠ 0 ∧ y = nI t) := by
  rcases g with ⟨g1, g2, r, hr, f1, f2, f3⟩ | ⟨g1, g2, f1 | ⟨r, a, b, hr, f1, f2, f3, f4, f5⟩⟩
  · rw [g1, f1, f2, f3]
    constructor
    · rintro ⟨h, -⟩
      exact ⟨by decide, h⟩
    · rintro ⟨-, h⟩
      rw [cs_inj (by omega) (by omega) h]
      exact ⟨rfl, rfl⟩
  · rw [g1, f1]
    constructor
    · rintro ⟨h, -⟩
      exact absurd h.symm (cs_nm1 (by omega))
    · rintro ⟨h, -⟩
      exact absurd rfl h
  · rw [g1, f1, f2]
    constructor
    · rintro ⟨h, h2⟩
      rw [← cs_inj (by omega) (by omega) h, f3] at h2
      have := cs_inj (by omega) (by omega) h2
      omega
    · rintro ⟨h, -⟩
      exact absurd rfl h
section
variable {xm xh xo xp : Int32} {An At As Av Gn Gt Gs Gv Lg Fo Dt Fz Fn Ft Fs Fv : Nat → Int32}
variable {m o p : Nat} {P O S : Nat → cs_C} {k : Nat} {Kp Hp : Nat → Int32}
theorem cs_kt_44 {post : Int32 → SX → Prop} {J : Int32 → Int32 → Int32 → Int32 → Int32 → Int32 → (Nat → Int32) → (Nat → Int32) → (Nat → Int32) → (Nat → Int32) → (Nat → Int32) → (Nat → Int32) → (Nat → Int32) → (Nat → Int32) → (Nat → Int32) → (Nat → Int32) → (Nat → Int32) → (Nat → Int32) → (Nat → Int32) → (Nat → Int32) → (Nat → Int32) → (Nat → Int32) → Prop} (G : cs_G k P Kp Hp) {t i f : Nat} (ht : t < 16) (hi : i < 16) (hf : f < 5) (ea : cs_c Fv Fn Ft Fs f = P i) (K : J (nI (cs_n Kp Hp t (4 * (i + 1)))) (nI (i + 1)) xm xh xo xp An At As Av Gn Gt Gs Gv Lg Fo Dt Fz Fn Ft Fs Fv) : ∀ d s, s + d = 4 → wX_keysTo_44 post J (nI t) (P t 0 0) (nI i) (nI f) xm xh xo xp An At As Av Gn Gt Gs Gv Lg Fo Dt Fz Fn Ft Fs Fv (d + 1) (nI (cs_n Kp Hp t (4 * i + s))) (nI (4 * f + s)) := by
  intro d
  induction d with
  | zero =>
    intro s hs
    obtain rfl : s = 4 := by omega
    have h : 4 * nI f + 4 ≤ nI (4 * f + 4) := by rw [cs_e44]; exact nI_le (by omega) (by omega)
    exact br_t h (nm_r (nI_1 i) K)
  | succ d ih =>
    intro s hs
    have h : ¬ 4 * nI f + 4 ≤ nI (4 * f + s) := by rw [cs_e44]; exact nI_ge (by omega) (by omega)
    have i1 : vp_in (nI (4 * f + s)) 20 := vp_in_nI (by omega) (by decide)
    have c1 : (nI (4 * f + s)).toNatClampNeg = 4 * f + s := nI_clamp (by omega)
    have et : Ft (4 * f + s) = P i 2 s := by rw [← ea, cs_c2 (by omega)]
    have es : Fs (4 * f + s) = P i 3 s := by rw [← ea, cs_c3 (by omega)]
    have g := cs_Sl_n (G.2 i s hi (by omega)) ht
    have ih' := ih (s + 1) (by omega)
    refine br_f h ⟨i1, ?_⟩
    rw [c1, et, es]
    refine br_c (fun y => ⟨i1, br_c (fun z => ?_) (fun z => ?_)⟩) (fun y => ?_)
    · rw [← Nat.add_assoc, cs_nY (g.mp ⟨y, z⟩), ← Nat.add_assoc] at ih'
      exact nm_r (nI_1 _) (nm_r (nI_1 _) ih')
    · rw [← Nat.add_assoc, cs_nN (fun w => z (g.mpr w).2), ← Nat.add_assoc] at ih'
      exact nm_r (nI_1 _) ih'
    · rw [← Nat.add_assoc, cs_nN (fun w => y (g.mpr w).1), ← Nat.add_assoc] at ih'
      exact nm_r (nI_1 _) ih'
theorem cs_kt_23 {post : Int32 → SX → Prop} (G : cs_G k P Kp Hp) {t : Nat} (ht : t < 16) (K : ∀ (xm1 xh1 xo1 xp1 : Int32) (An1 At1 As1 Av1 Gn1 Gt1 Gs1 Gv1 Lg1 Fo1 Dt1 Fz1 Fn1 Ft1 Fs1 Fv1 : Nat → Int32), cs_Rep (xm1, xh1, xo1, xp1, An1, At1, As1, Av1, Gn1, Gt1, Gs1, Gv1, Lg1, Fo1, Dt1, Fz1, Fn1, Ft1, Fs1, Fv1) m o p P O S → post (nI (cs_n Kp Hp t 64)) (xm1, xh1, xo1, xp1, An1, At1, As1, Av1, Gn1, Gt1, Gs1, Gv1, Lg1, Fo1, Dt1, Fz1, Fn1, Ft1, Fs1, Fv1)) : ∀ d i (xm xh xo xp : Int32) (An At As Av Gn Gt Gs Gv Lg Fo Dt Fz Fn Ft Fs Fv : Nat → Int32), i + d = 16 → cs_Rep (xm, xh, xo, xp, An, At, As, Av, Gn, Gt, Gs, Gv, Lg, Fo, Dt, Fz, Fn, Ft, Fs, Fv) m o p P O S → wX_keysTo_23 post (nI t) (P t 0 0) (d + 1) (nI (cs_n Kp Hp t (4 * i))) (nI i) xm xh xo xp An At As Av Gn Gt Gs Gv Lg Fo Dt Fz Fn Ft Fs Fv := by
  intro d
  induction d with
  | zero =>
    intro i xm xh xo xp An At As Av Gn Gt Gs Gv Lg Fo Dt Fz Fn Ft Fs Fv hi R
    obtain rfl : i = 16 := by omega
    exact br_t (nI_le (a := 16) (by omega) (by omega)) (K xm xh xo xp An At As Av Gn Gt Gs Gv Lg Fo Dt Fz Fn Ft Fs Fv R)
  | succ d ih =>
    intro i xm xh xo xp An At As Av Gn Gt Gs Gv Lg Fo Dt Fz Fn Ft Fs Fv hi R
    refine br_f (nI_ge (b := 16) (by omega) (by decide)) ?_
    refine cs_frameFor R (by omega) (fun f xm1 xh1 xo1 xp1 An1 At1 As1 Av1 Gn1 Gt1 Gs1 Gv1 Lg1 Fo1 Dt1 Fz1 Fn1 Ft1 Fs1 Fv1 hf R1 e1 => nm_r (cs_e4' f) ⟨5, ?_⟩)
    exact cs_kt_44 G ht (by omega) hf (cs_at R1 hf (by omega) e1) (ih (i + 1) xm1 xh1 xo1 xp1 An1 At1 As1 Av1 Gn1 Gt1 Gs1 Gv1 Lg1 Fo1 Dt1 Fz1 Fn1 Ft1 Fs1 Fv1 (by omega) R1) 4 0 (by omega)
theorem cs_keysTo {post : Int32 → SX → Prop} {u : SX} (R : cs_Rep u m o p P O S) (G : cs_G k P Kp Hp) {t : Nat} (ht : t < 16) (K : ∀ (xm1 xh1 xo1 xp1 : Int32) (An1 At1 As1 Av1 Gn1 Gt1 Gs1 Gv1 Lg1 Fo1 Dt1 Fz1 Fn1 Ft1 Fs1 Fv1 : Nat → Int32), cs_Rep (xm1, xh1, xo1, xp1, An1, At1, As1, Av1, Gn1, Gt1, Gs1, Gv1, Lg1, Fo1, Dt1, Fz1, Fn1, Ft1, Fs1, Fv1) m o p P O S → post (nI (cs_n Kp Hp t 64)) (xm1, xh1, xo1, xp1, An1, At1, As1, Av1, Gn1, Gt1, Gs1, Gv1, Lg1, Fo1, Dt1, Fz1, Fn1, Ft1, Fs1, Fv1)) : wpX_keysTo post u (nI t) := by
  obtain ⟨xm, xh, xo, xp, An, At, As, Av, Gn, Gt, Gs, Gv, Lg, Fo, Dt, Fz, Fn, Ft, Fs, Fv⟩ := u
  unfold wpX_keysTo
  refine br_f (nI_pos (by omega)) (br_t (nI_le (b := 15) (by omega) (by decide)) ?_)
  refine cs_versionOf R ht (fun xm1 xh1 xo1 xp1 An1 At1 As1 Av1 Gn1 Gt1 Gs1 Gv1 Lg1 Fo1 Dt1 Fz1 Fn1 Ft1 Fs1 Fv1 R1 => ⟨17, ?_⟩)
  exact cs_kt_23 G ht K 16 0 xm1 xh1 xo1 xp1 An1 At1 As1 Av1 Gn1 Gt1 Gs1 Gv1 Lg1 Fo1 Dt1 Fz1 Fn1 Ft1 Fs1 Fv1 (by omega) R1
theorem cs_kt_Y {post : Int32 → Prop} {yo : Int32} {Ko Ho Ks Hs : Nat → Int32} {t : Nat} (K : post (nI (cs_n Kp Hp t 64))) : ∀ d j, j + d = 64 → wY_keysTo_13 post (nI t) yo Kp Hp Ko Ho Ks Hs (d + 1) (nI (cs_n Kp Hp t j)) (nI j) := by
  intro d
  induction d with
  | zero =>
    intro j hj
    obtain rfl : j = 64 := by omega
    exact br_t (nI_le (a := 64) (by omega) (by omega)) K
  | succ d ih =>
    intro j hj
    have i1 : vp_in (nI j) 64 := vp_in_nI (by omega) (by decide)
    have c1 : (nI j).toNatClampNeg = j := nI_clamp (by omega)
    have ih' := ih (j + 1) (by omega)
    refine br_f (nI_ge (b := 64) (by omega) (by decide)) ⟨i1, ?_⟩
    rw [c1]
    refine br_c (fun y => ?_) (fun y => ⟨i1, br_c (fun z => ?_) (fun z => ?_)⟩)
    · rw [cs_nN (fun w => w.1 y)] at ih'
      exact nm_r (nI_1 _) ih'
    · rw [cs_nY ⟨y, z⟩] at ih'
      exact nm_r (nI_1 _) (nm_r (nI_1 _) ih')
    · rw [cs_nN (fun w => z w.2)] at ih'
      exact nm_r (nI_1 _) ih'
/-! ===== follow ===== -/
theorem cs_fo_lp {yo : Int32} {Ko Ho Ks Hs : Nat → Int32} (G : cs_G k P Kp Hp) {s M : Nat} {x : Int32} (hs : s < 4) (hM : M ≤ 16) (hX : ∀ j, j ≤ 16 → ((x ≤ nI j ∨ (16 : Int32) ≤ nI j) ↔ M ≤ j)) : ∀ d j a, j + d = M → a < 16 → ∃ r : Int32, (∀ post : Int32 → Prop, post r → wY_follow_38 post (nI s) (nI M) yo Kp Hp Ko Ho Ks Hs (d + 1) (nI a) (nI j)) ∧ (∀ (post : Int32 → SX → Prop) (xm xh xo xp : Int32) (An At As Av Gn Gt Gs Gv Lg Fo Dt Fz Fn Ft Fs Fv : Nat → Int32), cs_Rep (xm, xh, xo, xp, An, At, As, Av, Gn, Gt, Gs, Gv, Lg, Fo, Dt, Fz, Fn, Ft, Fs, Fv) m o p P O S → (∀ (xm1 xh1 xo1 xp1 : Int32) (An1 At1 As1 Av1 Gn1 Gt1 Gs1 Gv1 Lg1 Fo1 Dt1 Fz1 Fn1 Ft1 Fs1 Fv1 : Nat → Int32), cs_Rep (xm1, xh1, xo1, xp1, An1, At1, As1, Av1, Gn1, Gt1, Gs1, Gv1, Lg1, Fo1, Dt1, Fz1, Fn1, Ft1, Fs1, Fv1) m o p P O S → post r (xm1, xh1, xo1, xp1, An1, At1, As1, Av1, Gn1, Gt1, Gs1, Gv1, Lg1, Fo1, Dt1, Fz1, Fn1, Ft1, Fs1, Fv1)) → wX_follow_16 post (nI s) x (d + 1) (nI a) (nI j) xm xh xo xp An At As Av Gn Gt Gs Gv Lg Fo Dt Fz Fn Ft Fs Fv) := by
  intro d
  induction d with
  | zero =>
    intro j a hj ha
    refine ⟨nI a, fun post h => br_t (nI_le (by omega) (by omega)) h, fun post xm xh xo xp An At As Av Gn Gt Gs Gv Lg Fo Dt Fz Fn Ft Fs Fv R K => ?_⟩
    by_cases c : x ≤ nI j
    · exact br_t c (K xm xh xo xp An At As Av Gn Gt Gs Gv Lg Fo Dt Fz Fn Ft Fs Fv R)
    · refine br_f c (br_t ?_ (K xm xh xo xp An At As Av Gn Gt Gs Gv Lg Fo Dt Fz Fn Ft Fs Fv R))
      rcases (hX j (by omega)).mpr (by omega) with h | h
      · exact absurd h c
      · exact h
  | succ d ih =>
    intro j a hj ha
    have nx : ¬ (x ≤ nI j ∨ (16 : Int32) ≤ nI j) := fun z => absurd ((hX j (by omega)).mp z) (by omega)
    have nx1 : ¬ x ≤ nI j := fun z => nx (Or.inl z)
    have nx2 : ¬ (16 : Int32) ≤ nI j := fun z => nx (Or.inr z)
    have i1 : vp_in (4 * nI a + nI s) 64 := by rw [cs_e4]; exact vp_in_nI (by omega) (by decide)
    have c1 : (4 * nI a + nI s).toNatClampNeg = 4 * a + s := by rw [cs_e4]; exact nI_clamp (by omega)
    have hy : ¬ nI M ≤ nI j := nI_ge (by omega) (by omega)
    have g := G.2 a s ha hs
    have g' := g
    rcases g' with ⟨g1, g2, t, ht, f1, f2, f3⟩ | ⟨g1, g2, f1⟩
    · obtain ⟨r, hY, hW⟩ := ih (j + 1) t (by omega) ht
      refine ⟨r, fun post h => ?_, fun post xm xh xo xp An At As Av Gn Gt Gs Gv Lg Fo Dt Fz Fn Ft Fs Fv R K => ?_⟩
      · refine br_f hy ⟨i1, ?_⟩
        rw [c1]
        refine br_f (by rw [g1]; decide) ⟨i1, nm_r f2 (nm_r (nI_1 j) (hY post h))⟩
      · refine br_f nx1 (br_f nx2 ?_)
        refine cs_liveKey R ha hs g (fun z => ?_) (fun t' ht' _ _ f2' xm1 xh1 xo1 xp1 An1 At1 As1 Av1 Gn1 Gt1 Gs1 Gv1 Lg1 Fo1 Dt1 Fz1 Fn1 Ft1 Fs1 Fv1 R1 => ?_)
        · rw [g1] at z
          exact absurd z (by decide)
        · rw [f2] at f2'
          rw [← f2']
          exact br_t (nI_pos' (by omega)) (nm_r (nI_1 j) (hW post xm1 xh1 xo1 xp1 An1 At1 As1 Av1 Gn1 Gt1 Gs1 Gv1 Lg1 Fo1 Dt1 Fz1 Fn1 Ft1 Fs1 Fv1 R1 K))
    · refine ⟨-2, fun post h => ?_, fun post xm xh xo xp An At As Av Gn Gt Gs Gv Lg Fo Dt Fz Fn Ft Fs Fv R K => ?_⟩
      · refine br_f hy ⟨i1, ?_⟩
        rw [c1]
        exact br_t g1 h
      · refine br_f nx1 (br_f nx2 ?_)
        refine cs_liveKey R ha hs g (fun _ _ xm1 xh1 xo1 xp1 An1 At1 As1 Av1 Gn1 Gt1 Gs1 Gv1 Lg1 Fo1 Dt1 Fz1 Fn1 Ft1 Fs1 Fv1 R1 => br_f (by decide) (K xm1 xh1 xo1 xp1 An1 At1 As1 Av1 Gn1 Gt1 Gs1 Gv1 Lg1 Fo1 Dt1 Fz1 Fn1 Ft1 Fs1 Fv1 R1)) (fun t' ht' z => ?_)
        rw [g1] at z
        exact absurd z (by decide)
end
end
section
section
variable {yo : Int32} {Kp Hp Ko Ho Ks Hs : Nat → Int32}
/-! ===== the reference's loops ===== -/
theorem cs_ys {post : SY → Prop} {i : Nat} (hi : i < 64) {x y : Int32} (hx : x = 0 ∨ x = 1) (K : post (yo, upd Kp i x, upd Hp i y, Ko, Ho, Ks, Hs)) : wpY_set post (yo, Kp, Hp, Ko, Ho, Ks, Hs) (nI i) x y := by
  have i1 : vp_in (nI i) 64 := vp_in_nI hi (by decide)
  have c1 : (nI i).toNatClampNeg = i := nI_clamp (by omega)
  exact ⟨i1, nm_r (cs_ux c1 (cs_bb hx)) ⟨i1, nm_r (cs_ux c1 rfl) K⟩⟩
theorem cs_yr_lp {post : Int32 → SY → Prop} {t : Nat} (ht : t < 16) (K : ∀ K' H', (∀ i, i < 64 → ((i / 4 = t ∨ (Kp i ≠ 0 ∧ Hp i = nI t)) → K' i = 0 ∧ H' i = 0) ∧ (¬ (i / 4 = t ∨ (Kp i ≠ 0 ∧ Hp i = nI t)) → K' i = Kp i ∧ H' i = Hp i)) → post 0 (yo, K', H', Ko, Ho, Ks, Hs)) : ∀ d j K' H', j + d = 64 → (∀ i, i < j → ((i / 4 = t ∨ (Kp i ≠ 0 ∧ Hp i = nI t)) → K' i = 0 ∧ H' i = 0) ∧ (¬ (i / 4 = t ∨ (Kp i ≠ 0 ∧ Hp i = nI t)) → K' i = Kp i ∧ H' i = Hp i)) → (∀ i, j ≤ i → K' i = Kp i ∧ H' i = Hp i) → wY_rescind_11 post (nI t) (d + 1) (nI j) yo K' H' Ko Ho Ks Hs := by
  intro d
  induction d with
  | zero =>
    intro j K' H' hj h1 h2
    exact br_t (nI_le (a := 64) (by omega) (by omega)) (K K' H' (fun i hi => h1 i (by omega)))
  | succ d ih =>
    intro j K' H' hj h1 h2
    have i1 : vp_in (nI j) 64 := vp_in_nI (by omega) (by decide)
    have c1 : (nI j).toNatClampNeg = j := nI_clamp (by omega)
    have ed : nI j / 4 = nI (j / 4) := pk_div (d := 4) (by omega) (by omega) (by omega)
    have e1 := (h2 j (by omega)).1
    have e2 := (h2 j (by omega)).2
    have A : (j / 4 = t ∨ (Kp j ≠ 0 ∧ Hp j = nI t)) → wY_rescind_43 post (wY_rescind_11 post (nI t) (d + 1)) (nI t) (nI j) yo K' H' Ko Ho Ks Hs := by
      intro c
      unfold wY_rescind_43
      refine cs_ys (by omega) (Or.inl rfl) (nm_r (nI_1 j) ?_)
      refine ih (j + 1) (upd K' j 0) (upd H' j 0) (by omega) (fun i hi => ?_) (fun i hi => ?_)
      · by_cases e : i = j
        · subst e
          rw [pk_us, pk_us]
          exact ⟨fun _ => ⟨rfl, rfl⟩, fun z => absurd c z⟩
        · rw [pk_un e, pk_un e]
          exact h1 i (by omega)
      · rw [pk_un (by omega), pk_un (by omega)]
        exact h2 i (by omega)
    have B : ¬ (j / 4 = t ∨ (Kp j ≠ 0 ∧ Hp j = nI t)) → wY_rescind_11 post (nI t) (d + 1) (nI (j + 1)) yo K' H' Ko Ho Ks Hs := by
      intro c
      refine ih (j + 1) K' H' (by omega) (fun i hi => ?_) (fun i hi => h2 i (by omega))
      by_cases e : i = j
      · subst e
        exact ⟨fun z => absurd z c, fun _ => ⟨e1, e2⟩⟩
      · exact h1 i (by omega)
    refine br_f (nI_ge (b := 64) (by omega) (by decide)) ⟨by decide, ?_⟩
    rw [ed, c1, e1, e2]
    refine br_c (fun z => A (Or.inl (cs_inj (by omega) (by omega) z))) (fun z => ⟨i1, br_c (fun y => nm_r (nI_1 j) (B ?_)) (fun y => ⟨i1, br_c (fun w => A (Or.inr ⟨y, w⟩)) (fun w => nm_r (nI_1 j) (B ?_))⟩)⟩)
    · rintro (q | ⟨q, -⟩)
      · exact z (by rw [q])
      · exact q y
    · rintro (q | ⟨-, q⟩)
      · exact z (by rw [q])
      · exact w q
theorem cs_yr {post : Int32 → SY → Prop} {t : Nat} (ht : t < 16) (K : ∀ K' H', (∀ i, i < 64 → ((i / 4 = t ∨ (Kp i ≠ 0 ∧ Hp i = nI t)) → K' i = 0 ∧ H' i = 0) ∧ (¬ (i / 4 = t ∨ (Kp i ≠ 0 ∧ Hp i = nI t)) → K' i = Kp i ∧ H' i = Hp i)) → post 0 (yo, K', H', Ko, Ho, Ks, Hs)) : wpY_rescind post (yo, Kp, Hp, Ko, Ho, Ks, Hs) (nI t) := by
  unfold wpY_rescind wpY_badNode
  refine br_f (nI_pos (by omega)) (br_t (nI_le (b := 15) (by omega) (by decide)) (br_t rfl ⟨65, ?_⟩))
  exact cs_yr_lp ht K 64 0 Kp Hp (by omega) (fun i hi => absurd hi (by omega)) (fun _ _ => ⟨rfl, rfl⟩)
theorem cs_yn_lp {post : Int32 → SY → Prop} (hb : ∀ i, i < 64 → Kp i = 0 ∨ Kp i = 1) (K : ∀ K' H', (∀ i, i < 64 → K' i = Kp i ∧ H' i = Hp i) → post 0 (yo, Kp, Hp, K', H', Ks, Hs)) : ∀ d j K' H', j + d = 64 → (∀ i, i < j → K' i = Kp i ∧ H' i = Hp i) → wY_snapshot_16 post yo (d + 1) (nI j) Kp Hp K' H' Ks Hs := by
  intro d
  induction d with
  | zero =>
    intro j K' H' hj h
    exact br_t (nI_le (a := 64) (by omega) (by omega)) (K K' H' (fun i hi => h i (by omega)))
  | succ d ih =>
    intro j K' H' hj h
    have i1 : vp_in (nI j) 64 := vp_in_nI (by omega) (by decide)
    have c1 : (nI j).toNatClampNeg = j := nI_clamp (by omega)
    have eb : upd K' (nI j).toNatClampNeg (vp_nar .boolean (Kp (nI j).toNatClampNeg)) = upd K' j (Kp j) := by rw [c1, cs_bb (hb j (by omega))]
    refine br_f (nI_ge (b := 64) (by omega) (by decide)) ⟨i1, i1, nm_r eb ⟨i1, i1, nm_r (cs_up c1 c1) (nm_r (nI_1 j) ?_)⟩⟩
    refine ih (j + 1) (upd K' j (Kp j)) (upd H' j (Hp j)) (by omega) (fun i hi => ?_)
    by_cases e : i = j
    · subst e
      rw [pk_us, pk_us]
      exact ⟨rfl, rfl⟩
    · rw [pk_un e, pk_un e]
      exact h i (by omega)
theorem cs_yn {post : Int32 → SY → Prop} (h0 : yo = 0) (hb : ∀ i, i < 64 → Kp i = 0 ∨ Kp i = 1) (K : ∀ K' H', (∀ i, i < 64 → K' i = Kp i ∧ H' i = Hp i) → post 0 (1, Kp, Hp, K', H', Ks, Hs)) : wpY_snapshot post (yo, Kp, Hp, Ko, Ho, Ks, Hs) :=
  br_t h0 ⟨65, cs_yn_lp hb K 64 0 Ko Ho (by omega) (fun i hi => absurd hi (by omega))⟩
theorem cs_ye_lp {post : Int32 → SY → Prop} (hb : ∀ i, i < 64 → Ko i = 0 ∨ Ko i = 1) (K : ∀ K' H', (∀ i, i < 64 → K' i = Ko i ∧ H' i = Ho i) → post 0 (yo, Kp, Hp, Ko, Ho, K', H')) : ∀ d j K' H', j + d = 64 → (∀ i, i < j → K' i = Ko i ∧ H' i = Ho i) → wY_settle_16 post yo (d + 1) (nI j) Kp Hp Ko Ho K' H' := by
  intro d
  induction d with
  | zero =>
    intro j K' H' hj h
    exact br_t (nI_le (a := 64) (by omega) (by omega)) (K K' H' (fun i hi => h i (by omega)))
  | succ d ih =>
    intro j K' H' hj h
    have i1 : vp_in (nI j) 64 := vp_in_nI (by omega) (by decide)
    have c1 : (nI j).toNatClampNeg = j := nI_clamp (by omega)
    have eb : upd K' (nI j).toNatClampNeg (vp_nar .boolean (Ko (nI j).toNatClampNeg)) = upd K' j (Ko j) := by rw [c1, cs_bb (hb j (by omega))]
    refine br_f (nI_ge (b := 64) (by omega) (by decide)) ⟨i1, i1, nm_r eb ⟨i1, i1, nm_r (cs_up c1 c1) (nm_r (nI_1 j) ?_)⟩⟩
    refine ih (j + 1) (upd K' j (Ko j)) (upd H' j (Ho j)) (by omega) (fun i hi => ?_)
    by_cases e : i = j
    · subst e
      rw [pk_us, pk_us]
      exact ⟨rfl, rfl⟩
    · rw [pk_un e, pk_un e]
      exact h i (by omega)
theorem cs_ye {post : Int32 → SY → Prop} (h1 : yo = 1) (hb : ∀ i, i < 64 → Ko i = 0 ∨ Ko i = 1) (K : ∀ K' H', (∀ i, i < 64 → K' i = Ko i ∧ H' i = Ho i) → post 0 (0, Kp, Hp, Ko, Ho, K', H')) : wpY_settle post (yo, Kp, Hp, Ko, Ho, Ks, Hs) :=
  br_f (by rw [h1]; decide) ⟨65, cs_ye_lp hb K 64 0 Ks Hs (by omega) (fun i hi => absurd hi (by omega))⟩
theorem cs_yc_lp {post : SY → Prop} (hb : ∀ i, i < 64 → Ks i = 0 ∨ Ks i = 1) (K : ∀ K' H', (∀ i, i < 64 → K' i = Ks i ∧ H' i = Hs i) → post (yo, K', H', Ko, Ho, Ks, Hs)) : ∀ d j K' H', j + d = 64 → (∀ i, i < j → K' i = Ks i ∧ H' i = Hs i) → wY_crash_7 post (d + 1) (nI j) yo K' H' Ko Ho Ks Hs := by
  intro d
  induction d with
  | zero =>
    intro j K' H' hj h
    exact br_t (nI_le (a := 64) (by omega) (by omega)) (K K' H' (fun i hi => h i (by omega)))
  | succ d ih =>
    intro j K' H' hj h
    have i1 : vp_in (nI j) 64 := vp_in_nI (by omega) (by decide)
    have c1 : (nI j).toNatClampNeg = j := nI_clamp (by omega)
    refine br_f (nI_ge (b := 64) (by omega) (by decide)) ⟨i1, i1, ?_⟩
    rw [c1]
    refine cs_ys (by omega) (hb j (by omega)) (nm_r (nI_1 j) ?_)
    refine ih (j + 1) (upd K' j (Ks j)) (upd H' j (Hs j)) (by omega) (fun i hi => ?_)
    by_cases e : i = j
    · subst e
      rw [pk_us, pk_us]
      exact ⟨rfl, rfl⟩
    · rw [pk_un e, pk_un e]
      exact h i (by omega)
theorem cs_yc {post : SY → Prop} (hb : ∀ i, i < 64 → Ks i = 0 ∨ Ks i = 1) (K : ∀ K' H', (∀ i, i < 64 → K' i = Ks i ∧ H' i = Hs i) → post (0, K', H', Ko, Ho, Ks, Hs)) : wpY_crash post (yo, Kp, Hp, Ko, Ho, Ks, Hs) :=
  ⟨65, cs_yc_lp hb K 64 0 Kp Hp (by omega) (fun i hi => absurd hi (by omega))⟩
/-! ===== the forms of the arguments ===== -/
theorem cs_nd (x : Int32) : x < 0 ∨ (¬ x < 0 ∧ ¬ x ≤ 15 ∧ 15 < x) ∨ ∃ n, n < 16 ∧ x = nI n := by
  rcases pk_ix x (n := 16) (by omega) with h | h | h
  · exact Or.inl h
  · have e : (nI 16).toInt = 16 := by decide
    rw [Int32.le_iff_toInt_le, e] at h
    have e0 : (0 : Int32).toInt = 0 := by decide
    have e15 : (15 : Int32).toInt = 15 := by decide
    refine Or.inr (Or.inl ⟨?_, ?_, ?_⟩)
    · rw [Int32.lt_iff_toInt_lt, e0]; omega
    · rw [Int32.le_iff_toInt_le, e15]; omega
    · rw [Int32.lt_iff_toInt_lt, e15]; omega
  · exact Or.inr (Or.inr h)
theorem cs_sd (x : Int32) : x < 0 ∨ (¬ x < 0 ∧ ¬ x ≤ 3 ∧ 3 < x) ∨ ∃ n, n < 4 ∧ x = nI n := by
  rcases pk_ix x (n := 4) (by omega) with h | h | h
  · exact Or.inl h
  · have e : (nI 4).toInt = 4 := by decide
    rw [Int32.le_iff_toInt_le, e] at h
    have e0 : (0 : Int32).toInt = 0 := by decide
    have e15 : (3 : Int32).toInt = 3 := by decide
    refine Or.inr (Or.inl ⟨?_, ?_, ?_⟩)
    · rw [Int32.lt_iff_toInt_lt, e0]; omega
    · rw [Int32.le_iff_toInt_le, e15]; omega
    · rw [Int32.lt_iff_toInt_lt, e15]; omega
  · exact Or.inr (Or.inr h)
theorem cs_fitY {post : Int32 → Prop} {n s : Nat} (hn : n < 16) (hs : s < 4) (K : post 1) : wpX_fits post (nI n) (nI s) := by
  have n15 : ¬ (15 : Int32) < nI n := by
    intro w
    rw [Int32.lt_iff_toInt_lt, nI_toInt (by omega), show (15 : Int32).toInt = 15 from by decide] at w
    omega
  have n3 : ¬ (3 : Int32) < nI s := by
    intro w
    rw [Int32.lt_iff_toInt_lt, nI_toInt (by omega), show (3 : Int32).toInt = 3 from by decide] at w
    omega
  exact br_f (nI_pos (by omega)) (br_f n15 (br_f (nI_pos (by omega)) (br_f n3 K)))
theorem cs_ndY {post : Int32 → Prop} {n : Nat} (hn : n < 16) (K : post 0) : wpY_badNode post (nI n) :=
  br_f (nI_pos (by omega)) (br_t (nI_le (b := 15) (by omega) (by decide)) K)
theorem cs_badY {post : Int32 → Prop} {n s : Nat} (hn : n < 16) (hs : s < 4) (K : post 0) : wpY_bad post (nI n) (nI s) := by
  unfold wpY_bad
  exact cs_ndY hn (br_t rfl (br_f (nI_pos (by omega)) (br_t (nI_le (b := 3) (by omega) (by decide)) K)))
/-- a node and a slot that fit, or both sides refuse -/
theorem cs_fb (x y : Int32) : (∃ n s, n < 16 ∧ s < 4 ∧ x = nI n ∧ y = nI s) ∨ ((∀ post : Int32 → Prop, post 0 → wpX_fits post x y) ∧ (∀ post : Int32 → Prop, post 1 → wpY_bad post x y)) := by
  have n1 : ¬ (1 : Int32) = 0 := by decide
  rcases cs_nd x with h | ⟨h, h1, h2⟩ | ⟨n, hn, rfl⟩
  · exact Or.inr ⟨fun post K => br_t h K, fun post K => br_t h (br_f n1 K)⟩
  · exact Or.inr ⟨fun post K => br_f h (br_t h2 K), fun post K => br_f h (br_f h1 (br_f n1 K))⟩
  · have n15 : ¬ (15 : Int32) < nI n := by
      intro w
      rw [Int32.lt_iff_toInt_lt, nI_toInt (by omega), show (15 : Int32).toInt = 15 from by decide] at w
      omega
    have l15 : nI n ≤ (15 : Int32) := nI_le (b := 15) (by omega) (by decide)
    have p0 : ¬ nI n < 0 := nI_pos (by omega)
    rcases cs_sd y with h | ⟨h, h1, h2⟩ | ⟨s, hs, rfl⟩
    · exact Or.inr ⟨fun post K => br_f p0 (br_f n15 (br_t h K)), fun post K => br_f p0 (br_t l15 (br_t rfl (br_t h K)))⟩
    · exact Or.inr ⟨fun post K => br_f p0 (br_f n15 (br_f h (br_t h2 K))), fun post K => br_f p0 (br_t l15 (br_t rfl (br_f h (br_f h1 K))))⟩
    · exact Or.inl ⟨n, s, hn, hs, rfl, rfl⟩
end
end
section
/-- the reference's three copies against the generations -/
def cs_Y (k o : Nat) (P O S : Nat → cs_C) (v : SY) : Prop := match v with
  | (yo, Kp, Hp, Ko, Ho, Ks, Hs) => ((o < 3 ∧ yo = 1 ∧ cs_G k O Ko Ho) ∨ (¬ o < 3 ∧ yo = 0)) ∧ cs_G k P Kp Hp ∧ cs_G k S Ks Hs
def i_Rel (k : Nat) (u : SX) (v : SY) : Prop := ∃ m o p P O S, cs_Rep u m o p P O S ∧ cs_Y k o P O S v
theorem cs_Y_up {k o : Nat} {P O S : Nat → cs_C} {v : SY} (h : cs_Y k o P O S v) : cs_Y (k + 5) o P O S v := by
  obtain ⟨yo, Kp, Hp, Ko, Ho, Ks, Hs⟩ := v
  obtain ⟨a, b, c⟩ := h
  refine ⟨?_, cs_G_up b (by omega), cs_G_up c (by omega)⟩
  rcases a with ⟨a1, a2, a3⟩ | a
  · exact Or.inl ⟨a1, a2, cs_G_up a3 (by omega)⟩
  · exact Or.inr a
theorem i_up {k : Nat} {u : SX} {v : SY} (h : i_Rel k u v) : i_Rel (k + 5) u v := by
  obtain ⟨m, o, p, P, O, S, R, Y⟩ := h
  exact ⟨m, o, p, P, O, S, R, cs_Y_up Y⟩
section
variable {yo : Int32} {Kp Hp Ko Ho Ks Hs : Nat → Int32}
theorem cs_mk {k m o p : Nat} {P P' O S : Nat → cs_C} {u : SX} {K' H' : Nat → Int32} (Y : cs_Y k o P O S (yo, Kp, Hp, Ko, Ho, Ks, Hs)) (R : cs_Rep u m o p P' O S) (G : cs_G (k + 5) P' K' H') : i_Rel (k + 5) u (yo, K', H', Ko, Ho, Ks, Hs) := by
  obtain ⟨a, b, c⟩ := cs_Y_up Y
  exact ⟨m, o, p, P', O, S, R, a, G, c⟩
theorem cs_mk0 {k m o p : Nat} {P O S : Nat → cs_C} {u : SX} {v : SY} (Y : cs_Y k o P O S v) (R : cs_Rep u m o p P O S) : i_Rel (k + 5) u v := ⟨m, o, p, P, O, S, R, cs_Y_up Y⟩
end
theorem cs_in_lp {post : SX → Prop} (K : ∀ u' q ht, (∀ i, i < 64 → ht i = -1) → cs_Rep u' 3 3 q (cs_c (fun _ => 0) (fun _ => 0) ht (fun _ => 0)) (cs_c (fun _ => 0) (fun _ => 0) ht (fun _ => 0)) (cs_c (fun _ => 0) (fun _ => 0) ht (fun _ => 0)) → post u') : ∀ d j ht, j + d = 64 → (∀ i, i < j → ht i = -1) → wX_init_138 post (-1) 0 0 0 (d + 1) (nI j) (fun _ => 0) ht (fun _ => 0) (fun _ => 0) (fun _ => 0) (fun _ => 0) (fun _ => 0) (fun _ => 0) (fun _ => 0) (fun _ => 0) (fun _ => 0) (fun _ => 0) (fun _ => 0) (fun _ => 0) (fun _ => 0) (fun _ => 0) := by
  intro d
  induction d with
  | zero =>
    intro j ht hj h
    refine br_t (nI_le (a := 64) (by omega) (by omega)) ?_
    refine cs_restart (m := 3) (O := cs_c (fun _ => 0) (fun _ => 0) ht (fun _ => 0)) (S := cs_c (fun _ => 0) (fun _ => 0) ht (fun _ => 0)) (by omega) (fun n hn => cs_v3 (by decide)) (fun u' q R => ?_)
    obtain ⟨xm, xh, xo, xp, An, At, As, Av, Gn, Gt, Gs, Gv, Lg, Fo, Dt, Fz, Fn, Ft, Fs, Fv⟩ := u'
    exact K _ q ht (fun i hi => h i (by omega)) R
  | succ d ih =>
    intro j ht hj h
    have i1 : vp_in (nI j) 64 := vp_in_nI (by omega) (by decide)
    have c1 : (nI j).toNatClampNeg = j := nI_clamp (by omega)
    refine br_f (nI_ge (b := 64) (by omega) (by decide)) ⟨i1, nm_r (cs_ux c1 rfl) (nm_r (nI_1 j) ?_)⟩
    refine ih (j + 1) (upd ht j (-1)) (by omega) (fun i hi => ?_)
    by_cases e : i = j
    · rw [e, pk_us]
    · rw [pk_un e]
      exact h i (by omega)
theorem i_vc0 : wpX_init (fun u => wpY_init (fun v => i_Rel 0 u v)) := by
  refine ⟨65, cs_in_lp (fun u' q ht h R => ?_) 64 0 (fun _ => 0) (by omega) (fun i hi => absurd hi (by omega))⟩
  have G : cs_G 0 (cs_c (fun _ => 0) (fun _ => 0) ht (fun _ => 0)) (fun _ => 0) (fun _ => 0) := by
    refine ⟨fun n hn => ⟨0, by omega, cs_c0 (by omega)⟩, fun n s hn hs => Or.inr ⟨rfl, cs_c1 hs, Or.inl ?_⟩⟩
    rw [cs_c2 hs, h (4 * n + s) (by omega)]
  exact ⟨3, 3, q, _, _, _, R, Or.inr ⟨by decide, rfl⟩, G, G⟩
end
section
theorem cs_10 : ¬ (1 : Int32) = 0 := by decide
theorem i_vc_write {k : Nat} {u : SX} {v : SY} (I : i_Rel k u v) (hk : k + 5 ≤ 2560) (v1 : Int32) (v2 : Int32) (v3 : Int32) : wpX_write (fun r u' => wpY_write (fun r' v' => r' = r ∧ i_Rel (k + 5) u' v') v v1 v2 v3) u v1 v2 v3 := by
  obtain ⟨m, o, p, P, O, S, R, Y⟩ := I
  obtain ⟨xm, xh, xo, xp, An, At, As, Av, Gn, Gt, Gs, Gv, Lg, Fo, Dt, Fz, Fn, Ft, Fs, Fv⟩ := u
  obtain ⟨yo, Kp, Hp, Ko, Ho, Ks, Hs⟩ := v
  have gp : cs_G k P Kp Hp := Y.2.1
  unfold wpX_write wpY_write
  rcases cs_fb v1 v2 with ⟨n, s, hn, hs, rfl, rfl⟩ | ⟨fx, fy⟩
  · refine cs_fitY hn hs (br_f cs_10 ?_)
    refine cs_put R hn hs (fun xm1 xh1 xo1 xp1 An1 At1 As1 Av1 Gn1 Gt1 Gs1 Gv1 Lg1 Fo1 Dt1 Fz1 Fn1 Ft1 Fs1 Fv1 c h0 hx h1 h2 h3 R1 => ?_)
    refine cs_badY hn hs (br_t rfl ?_)
    rw [cs_e4]
    refine cs_ys (by omega) (Or.inl rfl) ⟨by trivial, ?_⟩
    exact cs_mk Y R1 (cs_G_up (cs_G_num gp h0 hx hs h1 h2) (by omega))
  · exact fx _ (br_t rfl (fy _ (br_f cs_10 ⟨by trivial, cs_mk0 Y R⟩)))
theorem i_vc_writeKey {k : Nat} {u : SX} {v : SY} (I : i_Rel k u v) (hk : k + 5 ≤ 2560) (v1 : Int32) (v2 : Int32) (v3 : Int32) : wpX_writeKey (fun r u' => wpY_writeKey (fun r' v' => r' = r ∧ i_Rel (k + 5) u' v') v v1 v2 v3) u v1 v2 v3 := by
  obtain ⟨m, o, p, P, O, S, R, Y⟩ := I
  obtain ⟨xm, xh, xo, xp, An, At, As, Av, Gn, Gt, Gs, Gv, Lg, Fo, Dt, Fz, Fn, Ft, Fs, Fv⟩ := u
  obtain ⟨yo, Kp, Hp, Ko, Ho, Ks, Hs⟩ := v
  have gp : cs_G k P Kp Hp := Y.2.1
  unfold wpX_writeKey wpY_writeKey
  rcases cs_fb v1 v2 with ⟨n, s, hn, hs, rfl, rfl⟩ | ⟨fx, fy⟩
  · refine cs_fitY hn hs (br_f cs_10 ?_)
    rcases cs_nd v3 with h | ⟨h, h1, h2⟩ | ⟨t, ht, rfl⟩
    · exact br_t h (cs_badY hn hs (br_t rfl (br_t h (br_f cs_10 ⟨by trivial, cs_mk0 Y R⟩))))
    · exact br_f h (br_f h1 (cs_badY hn hs (br_t rfl (br_f h (br_f h1 (br_f cs_10 ⟨by trivial, cs_mk0 Y R⟩))))))
    · refine br_f (nI_pos (by omega)) (br_t (nI_le (b := 15) (by omega) (by decide)) ?_)
      refine cs_versionOf R ht (fun xm1 xh1 xo1 xp1 An1 At1 As1 Av1 Gn1 Gt1 Gs1 Gv1 Lg1 Fo1 Dt1 Fz1 Fn1 Ft1 Fs1 Fv1 R1 => ?_)
      refine cs_put R1 hn hs (fun xm2 xh2 xo2 xp2 An2 At2 As2 Av2 Gn2 Gt2 Gs2 Gv2 Lg2 Fo2 Dt2 Fz2 Fn2 Ft2 Fs2 Fv2 c h0 hx h1 h2 h3 R2 => ?_)
      refine cs_badY hn hs (br_t rfl (cs_ndY ht (br_t rfl ?_)))
      rw [cs_e4]
      refine cs_ys (by omega) (Or.inr rfl) ⟨by trivial, ?_⟩
      exact cs_mk Y R2 (cs_G_up (cs_G_key gp h0 hx hs ht h1 h2 h3) (by omega))
  · exact fx _ (br_t rfl (fy _ (br_f cs_10 ⟨by trivial, cs_mk0 Y R⟩)))
theorem i_vc_copy {k : Nat} {u : SX} {v : SY} (I : i_Rel k u v) (hk : k + 5 ≤ 2560) (v1 : Int32) (v2 : Int32) (v3 : Int32) (v4 : Int32) : wpX_copy (fun r u' => wpY_copy (fun r' v' => r' = r ∧ i_Rel (k + 5) u' v') v v1 v2 v3 v4) u v1 v2 v3 v4 := by
  obtain ⟨m, o, p, P, O, S, R, Y⟩ := I
  obtain ⟨xm, xh, xo, xp, An, At, As, Av, Gn, Gt, Gs, Gv, Lg, Fo, Dt, Fz, Fn, Ft, Fs, Fv⟩ := u
  obtain ⟨yo, Kp, Hp, Ko, Ho, Ks, Hs⟩ := v
  have gp : cs_G k P Kp Hp := Y.2.1
  unfold wpX_copy wpY_copy
  rcases cs_fb v1 v2 with ⟨n, s, hn, hs, rfl, rfl⟩ | ⟨fx, fy⟩
  · refine cs_fitY hn hs (br_f cs_10 ?_)
    rcases cs_fb v3 v4 with ⟨n', s', hn', hs', rfl, rfl⟩ | ⟨fx, fy⟩
    · refine cs_fitY hn' hs' (br_f cs_10 ?_)
      have i1 : vp_in (4 * nI n + nI s) 64 := by rw [cs_e4]; exact vp_in_nI (by omega) (by decide)
      have c1 : (4 * nI n + nI s).toNatClampNeg = 4 * n + s := by rw [cs_e4]; exact nI_clamp (by omega)
      refine cs_liveKey R hn hs (gp.2 n s hn hs) (fun a1 a2 xm1 xh1 xo1 xp1 An1 At1 As1 Av1 Gn1 Gt1 Gs1 Gv1 Lg1 Fo1 Dt1 Fz1 Fn1 Ft1 Fs1 Fv1 R1 => ?_) (fun t ht a1 a2 a3 xm1 xh1 xo1 xp1 An1 At1 As1 Av1 Gn1 Gt1 Gs1 Gv1 Lg1 Fo1 Dt1 Fz1 Fn1 Ft1 Fs1 Fv1 R1 => ?_)
      · refine cs_numberIn R1 hn hs (fun xm2 xh2 xo2 xp2 An2 At2 As2 Av2 Gn2 Gt2 Gs2 Gv2 Lg2 Fo2 Dt2 Fz2 Fn2 Ft2 Fs2 Fv2 R2 => br_f (by decide) ?_)
        unfold wX_copy_50
        refine cs_put R2 hn' hs' (fun xm3 xh3 xo3 xp3 An3 At3 As3 Av3 Gn3 Gt3 Gs3 Gv3 Lg3 Fo3 Dt3 Fz3 Fn3 Ft3 Fs3 Fv3 c h0 hx h1 h2 h3 R3 => ?_)
        refine cs_badY hn hs (br_t rfl (cs_badY hn' hs' (br_t rfl ⟨i1, i1, ?_⟩)))
        rw [c1, a1, cs_e4]
        refine cs_ys (by omega) (Or.inl rfl) ⟨by trivial, ?_⟩
        rw [a2] at h1
        exact cs_mk Y R3 (cs_G_up (cs_G_num gp h0 hx hs' h1 h2) (by omega))
      · refine cs_numberIn R1 hn hs (fun xm2 xh2 xo2 xp2 An2 At2 As2 Av2 Gn2 Gt2 Gs2 Gv2 Lg2 Fo2 Dt2 Fz2 Fn2 Ft2 Fs2 Fv2 R2 => br_t (nI_pos' (by omega)) ?_)
        refine cs_versionOf R2 ht (fun xm4 xh4 xo4 xp4 An4 At4 As4 Av4 Gn4 Gt4 Gs4 Gv4 Lg4 Fo4 Dt4 Fz4 Fn4 Ft4 Fs4 Fv4 R4 => ?_)
        unfold wX_copy_50
        refine cs_put R4 hn' hs' (fun xm3 xh3 xo3 xp3 An3 At3 As3 Av3 Gn3 Gt3 Gs3 Gv3 Lg3 Fo3 Dt3 Fz3 Fn3 Ft3 Fs3 Fv3 c h0 hx h1 h2 h3 R3 => ?_)
        refine cs_badY hn hs (br_t rfl (cs_badY hn' hs' (br_t rfl ⟨i1, i1, ?_⟩)))
        rw [c1, a1, a3, cs_e4]
        refine cs_ys (by omega) (Or.inr rfl) ⟨by trivial, ?_⟩
        rw [a2] at h1
        exact cs_mk Y R3 (cs_G_up (cs_G_key gp h0 hx hs' ht h1 h2 h3) (by omega))
    · exact fx _ (br_t rfl (cs_badY hn hs (br_t rfl (fy _ (br_f cs_10 ⟨by trivial, cs_mk0 Y R⟩)))))
  · exact fx _ (br_t rfl (fy _ (br_f cs_10 ⟨by trivial, cs_mk0 Y R⟩)))
theorem i_vc_rescind {k : Nat} {u : SX} {v : SY} (I : i_Rel k u v) (hk : k + 5 ≤ 2560) (v1 : Int32) : wpX_rescind (fun r u' => wpY_rescind (fun r' v' => r' = r ∧ i_Rel (k + 5) u' v') v v1) u v1 := by
  obtain ⟨m, o, p, P, O, S, R, Y⟩ := I
  obtain ⟨xm, xh, xo, xp, An, At, As, Av, Gn, Gt, Gs, Gv, Lg, Fo, Dt, Fz, Fn, Ft, Fs, Fv⟩ := u
  obtain ⟨yo, Kp, Hp, Ko, Ho, Ks, Hs⟩ := v
  have gp : cs_G k P Kp Hp := Y.2.1
  rcases cs_nd v1 with h | ⟨h, h1, h2⟩ | ⟨n, hn, rfl⟩
  · exact br_t h (br_t h (br_f cs_10 ⟨by trivial, cs_mk0 Y R⟩))
  · exact br_f h (br_f h1 (br_f h (br_f h1 (br_f cs_10 ⟨by trivial, cs_mk0 Y R⟩))))
  · refine cs_rescind R hn (fun xm1 xh1 xo1 xp1 An1 At1 As1 Av1 Gn1 Gt1 Gs1 Gv1 Lg1 Fo1 Dt1 Fz1 Fn1 Ft1 Fs1 Fv1 c h0 hx R1 => ?_)
    refine cs_yr hn (fun K' H' hY => ⟨by trivial, ?_⟩)
    exact cs_mk Y R1 (cs_G_re gp (by omega) hn h0 hx hY)
theorem i_vc_key {k : Nat} {u : SX} {v : SY} (I : i_Rel k u v) (hk : k + 5 ≤ 2560) (v1 : Int32) (v2 : Int32) : wpX_key (fun r u' => wpY_key (fun r' => r' = r ∧ i_Rel (k + 5) u' v) v v1 v2) u v1 v2 := by
  obtain ⟨m, o, p, P, O, S, R, Y⟩ := I
  obtain ⟨xm, xh, xo, xp, An, At, As, Av, Gn, Gt, Gs, Gv, Lg, Fo, Dt, Fz, Fn, Ft, Fs, Fv⟩ := u
  obtain ⟨yo, Kp, Hp, Ko, Ho, Ks, Hs⟩ := v
  have gp : cs_G k P Kp Hp := Y.2.1
  unfold wpX_key wpY_key
  rcases cs_fb v1 v2 with ⟨n, s, hn, hs, rfl, rfl⟩ | ⟨fx, fy⟩
  · refine cs_fitY hn hs (br_f cs_10 ?_)
    have i1 : vp_in (4 * nI n + nI s) 64 := by rw [cs_e4]; exact vp_in_nI (by omega) (by decide)
    have c1 : (4 * nI n + nI s).toNatClampNeg = 4 * n + s := by rw [cs_e4]; exact nI_clamp (by omega)
    refine cs_liveKey R hn hs (gp.2 n s hn hs) (fun a1 a2 xm1 xh1 xo1 xp1 An1 At1 As1 Av1 Gn1 Gt1 Gs1 Gv1 Lg1 Fo1 Dt1 Fz1 Fn1 Ft1 Fs1 Fv1 R1 => ?_) (fun t ht a1 a2 a3 xm1 xh1 xo1 xp1 An1 At1 As1 Av1 Gn1 Gt1 Gs1 Gv1 Lg1 Fo1 Dt1 Fz1 Fn1 Ft1 Fs1 Fv1 R1 => ?_)
    · refine br_f (by decide) ?_
      refine cs_badY hn hs (br_t rfl ⟨i1, ?_⟩)
      rw [c1]
      exact br_t a1 ⟨by trivial, cs_mk0 Y R1⟩
    · refine br_t (nI_pos' (by omega)) ?_
      refine cs_badY hn hs (br_t rfl ⟨i1, ?_⟩)
      rw [c1]
      exact br_f (by rw [a1]; decide) ⟨i1, a3, cs_mk0 Y R1⟩
  · exact fx _ (br_t rfl (fy _ (br_f cs_10 ⟨by trivial, cs_mk0 Y R⟩)))
theorem i_vc_number {k : Nat} {u : SX} {v : SY} (I : i_Rel k u v) (hk : k + 5 ≤ 2560) (v1 : Int32) (v2 : Int32) : wpX_number (fun r u' => wpY_number (fun r' => r' = r ∧ i_Rel (k + 5) u' v) v v1 v2) u v1 v2 := by
  obtain ⟨m, o, p, P, O, S, R, Y⟩ := I
  obtain ⟨xm, xh, xo, xp, An, At, As, Av, Gn, Gt, Gs, Gv, Lg, Fo, Dt, Fz, Fn, Ft, Fs, Fv⟩ := u
  obtain ⟨yo, Kp, Hp, Ko, Ho, Ks, Hs⟩ := v
  have gp : cs_G k P Kp Hp := Y.2.1
  unfold wpX_number wpY_number
  rcases cs_fb v1 v2 with ⟨n, s, hn, hs, rfl, rfl⟩ | ⟨fx, fy⟩
  · refine cs_fitY hn hs (br_f cs_10 ?_)
    have i1 : vp_in (4 * nI n + nI s) 64 := by rw [cs_e4]; exact vp_in_nI (by omega) (by decide)
    have c1 : (4 * nI n + nI s).toNatClampNeg = 4 * n + s := by rw [cs_e4]; exact nI_clamp (by omega)
    refine cs_numberIn R hn hs (fun xm1 xh1 xo1 xp1 An1 At1 As1 Av1 Gn1 Gt1 Gs1 Gv1 Lg1 Fo1 Dt1 Fz1 Fn1 Ft1 Fs1 Fv1 R1 => ?_)
    refine cs_badY hn hs (br_t rfl ⟨i1, ?_⟩)
    rw [c1]
    rcases gp.2 n s hn hs with ⟨g1, g2, -⟩ | ⟨g1, g2, -⟩
    · exact br_f (by rw [g1]; decide) ⟨g2.symm, cs_mk0 Y R1⟩
    · exact br_t g1 ⟨i1, g2.symm, cs_mk0 Y R1⟩
  · exact fx _ (br_t rfl (fy _ (br_f cs_10 ⟨by trivial, cs_mk0 Y R⟩)))
theorem i_vc_follow {k : Nat} {u : SX} {v : SY} (I : i_Rel k u v) (hk : k + 5 ≤ 2560) (v1 : Int32) (v2 : Int32) (v3 : Int32) : wpX_follow (fun r u' => wpY_follow (fun r' => r' = r ∧ i_Rel (k + 5) u' v) v v1 v2 v3) u v1 v2 v3 := by
  obtain ⟨m, o, p, P, O, S, R, Y⟩ := I
  obtain ⟨xm, xh, xo, xp, An, At, As, Av, Gn, Gt, Gs, Gv, Lg, Fo, Dt, Fz, Fn, Ft, Fs, Fv⟩ := u
  obtain ⟨yo, Kp, Hp, Ko, Ho, Ks, Hs⟩ := v
  have gp : cs_G k P Kp Hp := Y.2.1
  unfold wpX_follow wpY_follow
  rcases cs_fb v1 v2 with ⟨n, s, hn, hs, rfl, rfl⟩ | ⟨fx, fy⟩
  · refine cs_fitY hn hs (br_f cs_10 ?_)
    by_cases h : v3 < 0
    · have hX : ∀ j, j ≤ 16 → ((v3 ≤ nI j ∨ (16 : Int32) ≤ nI j) ↔ 0 ≤ j) := by
        intro j hj
        refine ⟨fun _ => by omega, fun _ => Or.inl ?_⟩
        exact Int32.le_trans (Int32.le_of_lt h) (nI_pos' (by omega))
      obtain ⟨r, hY, hW⟩ := cs_fo_lp (m := m) (o := o) (p := p) (O := O) (S := S) (yo := yo) (Ko := Ko) (Ho := Ho) (Ks := Ks) (Hs := Hs) gp (x := v3) hs (M := 0) (by omega) hX 0 0 n (by omega) hn
      refine ⟨_, hW _ xm xh xo xp An At As Av Gn Gt Gs Gv Lg Fo Dt Fz Fn Ft Fs Fv R (fun xm1 xh1 xo1 xp1 An1 At1 As1 Av1 Gn1 Gt1 Gs1 Gv1 Lg1 Fo1 Dt1 Fz1 Fn1 Ft1 Fs1 Fv1 R1 => ?_)⟩
      refine cs_badY hn hs (br_t rfl (br_f (Int32.not_le.mpr h) ⟨_, hY _ ⟨by trivial, cs_mk0 Y R1⟩⟩))
    · obtain ⟨q, hq, rfl⟩ := nI_of h
      by_cases c : q ≤ 16
      · have hX : ∀ j, j ≤ 16 → ((nI q ≤ nI j ∨ (16 : Int32) ≤ nI j) ↔ q ≤ j) := by
          intro j hj
          have e16 : (16 : Int32) ≤ nI j ↔ 16 ≤ j := nI_leI (a := 16) (by omega) (by omega)
          rw [nI_leI hq (by omega), e16]
          omega
        obtain ⟨r, hY, hW⟩ := cs_fo_lp (m := m) (o := o) (p := p) (O := O) (S := S) (yo := yo) (Ko := Ko) (Ho := Ho) (Ks := Ks) (Hs := Hs) gp (x := nI q) hs (M := q) c hX q 0 n (by omega) hn
        refine ⟨_, hW _ xm xh xo xp An At As Av Gn Gt Gs Gv Lg Fo Dt Fz Fn Ft Fs Fv R (fun xm1 xh1 xo1 xp1 An1 At1 As1 Av1 Gn1 Gt1 Gs1 Gv1 Lg1 Fo1 Dt1 Fz1 Fn1 Ft1 Fs1 Fv1 R1 => ?_)⟩
        refine cs_badY hn hs (br_t rfl (br_t (nI_pos' hq) (br_t (nI_le (b := 16) c (by decide)) ⟨_, hY _ ⟨by trivial, cs_mk0 Y R1⟩⟩)))
      · have hX : ∀ j, j ≤ 16 → ((nI q ≤ nI j ∨ (16 : Int32) ≤ nI j) ↔ 16 ≤ j) := by
          intro j hj
          have e16 : (16 : Int32) ≤ nI j ↔ 16 ≤ j := nI_leI (a := 16) (by omega) (by omega)
          rw [nI_leI hq (by omega), e16]
          omega
        obtain ⟨r, hY, hW⟩ := cs_fo_lp (m := m) (o := o) (p := p) (O := O) (S := S) (yo := yo) (Ko := Ko) (Ho := Ho) (Ks := Ks) (Hs := Hs) gp (x := nI q) hs (M := 16) (by omega) hX 16 0 n (by omega) hn
        refine ⟨_, hW _ xm xh xo xp An At As Av Gn Gt Gs Gv Lg Fo Dt Fz Fn Ft Fs Fv R (fun xm1 xh1 xo1 xp1 An1 At1 As1 Av1 Gn1 Gt1 Gs1 Gv1 Lg1 Fo1 Dt1 Fz1 Fn1 Ft1 Fs1 Fv1 R1 => ?_)⟩
        refine cs_badY hn hs (br_t rfl (br_t (nI_pos' hq) (br_f (nI_ge (a := 16) (by omega) hq) ⟨_, hY _ ⟨by trivial, cs_mk0 Y R1⟩⟩)))
  · exact fx _ (br_t rfl (fy _ (br_f cs_10 ⟨by trivial, cs_mk0 Y R⟩)))
theorem i_vc_snapshot {k : Nat} {u : SX} {v : SY} (I : i_Rel k u v) (hk : k + 5 ≤ 2560) : wpX_snapshot (fun r u' => wpY_snapshot (fun r' v' => r' = r ∧ i_Rel (k + 5) u' v') v) u := by
  obtain ⟨m, o, p, P, O, S, R, Y⟩ := I
  obtain ⟨yo, Kp, Hp, Ko, Ho, Ks, Hs⟩ := v
  have gp : cs_G k P Kp Hp := Y.2.1
  rcases Y.1 with ⟨ho, h1, g⟩ | ⟨ho, h0⟩
  · obtain ⟨xm, xh, xo, xp, An, At, As, Av, Gn, Gt, Gs, Gv, Lg, Fo, Dt, Fz, Fn, Ft, Fs, Fv⟩ := u
    have e : xo = cs_i o := R.2.1
    exact br_f (by rw [e]; exact cs_iP ho) (br_f (by rw [h1]; decide) ⟨by trivial, cs_mk0 Y R⟩)
  · refine cs_snapshot R ho (fun q xm1 xh1 xo1 xp1 An1 At1 As1 Av1 Gn1 Gt1 Gs1 Gv1 Lg1 Fo1 Dt1 Fz1 Fn1 Ft1 Fs1 Fv1 R1 => ?_)
    refine cs_yn h0 (fun i hi => cs_G_b gp hi) (fun K' H' h => ⟨by trivial, ?_⟩)
    have hp : p < 3 := by
      obtain ⟨xm, xh, xo, xp, An, At, As, Av, Gn, Gt, Gs, Gv, Lg, Fo, Dt, Fz, Fn, Ft, Fs, Fv⟩ := u
      obtain ⟨-, -, -, -, -, hN⟩ := R
      exact hN.1.2.2.1
    exact ⟨m, p, q, P, P, S, R1, Or.inl ⟨hp, rfl, cs_G_up (cs_G_cg gp h) (by omega)⟩, cs_G_up gp (by omega), cs_G_up Y.2.2 (by omega)⟩
theorem i_vc_settle {k : Nat} {u : SX} {v : SY} (I : i_Rel k u v) (hk : k + 5 ≤ 2560) : wpX_settle (fun r u' => wpY_settle (fun r' v' => r' = r ∧ i_Rel (k + 5) u' v') v) u := by
  obtain ⟨m, o, p, P, O, S, R, Y⟩ := I
  obtain ⟨yo, Kp, Hp, Ko, Ho, Ks, Hs⟩ := v
  rcases Y.1 with ⟨ho, h1, g⟩ | ⟨ho, h0⟩
  · refine cs_settle R ho (fun xm1 xh1 xo1 xp1 An1 At1 As1 Av1 Gn1 Gt1 Gs1 Gv1 Lg1 Fo1 Dt1 Fz1 Fn1 Ft1 Fs1 Fv1 R1 => ?_)
    refine cs_ye h1 (fun i hi => cs_G_b g hi) (fun K' H' h => ⟨by trivial, ?_⟩)
    exact ⟨o, 3, p, P, O, O, R1, Or.inr ⟨by decide, rfl⟩, cs_G_up Y.2.1 (by omega), cs_G_up (cs_G_cg g h) (by omega)⟩
  · obtain ⟨xm, xh, xo, xp, An, At, As, Av, Gn, Gt, Gs, Gv, Lg, Fo, Dt, Fz, Fn, Ft, Fs, Fv⟩ := u
    have e : xo = cs_i o := R.2.1
    exact br_f (by rw [e]; exact cs_iQ' ho) (br_t h0 ⟨by trivial, cs_mk0 Y R⟩)
theorem i_vc_crash {k : Nat} {u : SX} {v : SY} (I : i_Rel k u v) (hk : k + 5 ≤ 2560) : wpX_crash (fun u' => wpY_crash (fun v' => i_Rel (k + 5) u' v') v) u := by
  obtain ⟨m, o, p, P, O, S, R, Y⟩ := I
  obtain ⟨xm, xh, xo, xp, An, At, As, Av, Gn, Gt, Gs, Gv, Lg, Fo, Dt, Fz, Fn, Ft, Fs, Fv⟩ := u
  obtain ⟨yo, Kp, Hp, Ko, Ho, Ks, Hs⟩ := v
  obtain ⟨rfl, r2, r3, hh, hF, hN⟩ := R
  have gs : cs_G k S Ks Hs := Y.2.2
  unfold wpX_crash
  refine cs_restart (S := S) (O := O) hN.1.1 (fun n hn => (hN.2 n hn).2.2.2) (fun u' q R1 => ?_)
  obtain ⟨xm1, xh1, xo1, xp1, An1, At1, As1, Av1, Gn1, Gt1, Gs1, Gv1, Lg1, Fo1, Dt1, Fz1, Fn1, Ft1, Fs1, Fv1⟩ := u'
  refine cs_yc (fun i hi => cs_G_b gs hi) (fun K' H' h => ?_)
  exact ⟨m, 3, q, S, O, S, R1, Or.inr ⟨by decide, rfl⟩, cs_G_up (cs_G_cg gs h) (by omega), cs_G_up gs (by omega)⟩
theorem i_vc_idle {k : Nat} {u : SX} {v : SY} (I : i_Rel k u v) (hk : k + 5 ≤ 2560) (v1 : Int32) : wpX_idle (fun u' => wpY_idle (fun v' => i_Rel (k + 5) u' v') v v1) u v1 := by
  obtain ⟨m, o, p, P, O, S, R, Y⟩ := I
  obtain ⟨yo, Kp, Hp, Ko, Ho, Ks, Hs⟩ := v
  refine cs_idle R (fun m' xm1 xh1 xo1 xp1 An1 At1 As1 Av1 Gn1 Gt1 Gs1 Gv1 Lg1 Fo1 Dt1 Fz1 Fn1 Ft1 Fs1 Fv1 R1 => ?_)
  exact cs_mk0 Y R1
theorem i_vc_keysTo {k : Nat} {u : SX} {v : SY} (I : i_Rel k u v) (hk : k + 5 ≤ 2560) (v1 : Int32) : wpX_keysTo (fun r u' => wpY_keysTo (fun r' => r' = r ∧ i_Rel (k + 5) u' v) v v1) u v1 := by
  obtain ⟨m, o, p, P, O, S, R, Y⟩ := I
  obtain ⟨yo, Kp, Hp, Ko, Ho, Ks, Hs⟩ := v
  have gp : cs_G k P Kp Hp := Y.2.1
  rcases cs_nd v1 with h | ⟨h, h1, h2⟩ | ⟨n, hn, rfl⟩
  · obtain ⟨xm, xh, xo, xp, An, At, As, Av, Gn, Gt, Gs, Gv, Lg, Fo, Dt, Fz, Fn, Ft, Fs, Fv⟩ := u
    exact br_t h (br_t h (br_f cs_10 ⟨by trivial, cs_mk0 Y R⟩))
  · obtain ⟨xm, xh, xo, xp, An, At, As, Av, Gn, Gt, Gs, Gv, Lg, Fo, Dt, Fz, Fn, Ft, Fs, Fv⟩ := u
    exact br_f h (br_f h1 (br_f h (br_f h1 (br_f cs_10 ⟨by trivial, cs_mk0 Y R⟩))))
  · refine cs_keysTo R gp hn (fun xm1 xh1 xo1 xp1 An1 At1 As1 Av1 Gn1 Gt1 Gs1 Gv1 Lg1 Fo1 Dt1 Fz1 Fn1 Ft1 Fs1 Fv1 R1 => ?_)
    unfold wpY_keysTo
    refine cs_ndY hn (br_t rfl ⟨65, ?_⟩)
    exact cs_kt_Y ⟨by trivial, cs_mk0 Y R1⟩ 64 0 (by omega)
end
