section
section NTa
theorem pk_us {f : Nat → Int32} {k : Nat} {x : Int32} : upd f k x k = x := if_pos rfl
theorem pk_un {f : Nat → Int32} {k j : Nat} {x : Int32} (h : j ≠ k) : upd f k x j = f j := if_neg h
theorem pk_sub {a b : Nat} (h : b ≤ a) : nI a - nI b = nI (a - b) := by
  obtain ⟨c, rfl⟩ : ∃ c, a = c + b := ⟨a - b, by omega⟩
  rw [← nI_add, Int32.add_sub_cancel, Nat.add_sub_cancel]
theorem pk_m1 (n : Nat) : nI (n + 1) + (-1) = nI n := by
  rw [← nI_1, Int32.add_assoc, show (1 : Int32) + (-1) = 0 from rfl, Int32.add_zero]
theorem pk_mul (a b : Nat) : nI a * nI b = nI (a * b) := (Int32.ofNat_mul a b).symm
theorem pk_ix (x : Int32) {n : Nat} (hn : n < 2 ^ 31) : x < 0 ∨ nI n ≤ x ∨ ∃ j : Nat, j < n ∧ x = nI j := by
  by_cases h : x < 0
  · exact Or.inl h
  · obtain ⟨j, hj, rfl⟩ := nI_of h
    by_cases h2 : j < n
    · exact Or.inr (Or.inr ⟨j, h2, rfl⟩)
    · exact Or.inr (Or.inl (nI_le (by omega) hj))
theorem pk_le {x y : Int32} {A B : Prop} (a b : Nat) (f : a ≤ b → A) (g : b < a → B) (hx : x = nI a := by rfl) (hy : y = nI b := by rfl) (ha : a < 2 ^ 31 := by omega) (hb : b < 2 ^ 31 := by omega) : (x ≤ y → A) ∧ (¬ x ≤ y → B) := by
  subst hx hy
  rw [nI_leI ha hb]
  exact ⟨f, fun z => g (by omega)⟩
theorem pk_lt {x y : Int32} {A B : Prop} (a b : Nat) (f : a < b → A) (g : b ≤ a → B) (hx : x = nI a := by rfl) (hy : y = nI b := by rfl) (ha : a < 2 ^ 31 := by omega) (hb : b < 2 ^ 31 := by omega) : (x < y → A) ∧ (¬ x < y → B) := by
  subst hx hy
  rw [nI_ltI ha hb]
  exact ⟨f, fun z => g (by omega)⟩
theorem pk_eq {x y : Int32} {A B : Prop} (a b : Nat) (f : a = b → A) (g : a ≠ b → B) (hx : x = nI a := by rfl) (hy : y = nI b := by rfl) (ha : a < 2 ^ 31 := by omega) (hb : b < 2 ^ 31 := by omega) : (x = y → A) ∧ (¬ x = y → B) := by
  subst hx hy
  rw [nI_eq ha hb]
  exact ⟨f, g⟩
theorem pk_in {x : Int32} (n N : Nat) (h : n < N) (hx : x = nI n := by rfl) (hN : N < 2 ^ 31 := by omega) : vp_in x N := by
  subst hx
  exact vp_in_nI h hN
theorem pk_cl {x : Int32} (n : Nat) (hx : x = nI n := by rfl) (h : n < 2 ^ 31 := by omega) : x.toNatClampNeg = n := by
  subst hx
  exact nI_clamp h
theorem pk_tn {n : Nat} (h : n < 2 ^ 32) : (nI n).toBitVec.toNat = n := Nat.mod_eq_of_lt h
theorem pk_and (x : Int32) {m : Int32} (k : Nat) (hm : m.toBitVec.toNat = 2 ^ k - 1) : x &&& m = nI (x.toBitVec.toNat % 2 ^ k) := by
  apply Int32.toBitVec_inj.mp
  apply BitVec.eq_of_toNat_eq
  rw [Int32.toBitVec_and, BitVec.toNat_and, hm, Nat.and_two_pow_sub_one_eq_mod]
  show _ = (BitVec.ofNat 32 _).toNat
  rw [BitVec.toNat_ofNat]
  exact (Nat.mod_eq_of_lt (Nat.lt_of_le_of_lt (Nat.mod_le _ _) x.toBitVec.isLt)).symm
theorem pk_andN {n : Nat} (h : n < 2 ^ 32) {m : Int32} (k : Nat) (hm : m.toBitVec.toNat = 2 ^ k - 1) : nI n &&& m = nI (n % 2 ^ k) := by
  rw [pk_and _ k hm, pk_tn h]
theorem nt_b0 : vp_nar .boolean 0 = 0 := by decide
theorem nt_b1 : vp_nar .boolean 1 = 1 := by decide
theorem nt_ne1 {a : Nat} (h : a < 2 ^ 31) : ¬ nI a = -1 := by
  intro e
  have := nI_pos (n := a) h
  rw [e] at this
  exact this (by decide)
theorem nt_im {a b : Nat} (h : nI a = nI b) (ha : a < 2 ^ 31) (hb : b < 2 ^ 31) : a = b := (nI_eq ha hb).mp h
theorem nt_m4 (b i : Nat) : nI b * 4 + nI i = nI (4 * b + i) := by
  rw [show nI b * 4 = nI (b * 4) from pk_mul b 4, nI_add, Nat.mul_comm]
theorem nt_4m (b i : Nat) : 4 * nI b + nI i = nI (4 * b + i) := by
  rw [show 4 * nI b = nI (4 * b) from pk_mul 4 b, nI_add]
theorem nt_244m (b i : Nat) : 24 + 4 * nI b + nI i = nI (4 * (6 + b) + i) := by
  rw [show 4 * nI b = nI (4 * b) from pk_mul 4 b, show 24 + nI (4 * b) = nI (24 + 4 * b) from nI_add 24 (4 * b), nI_add]
  exact congrArg nI (by omega)
theorem nt_m6 (b i : Nat) : nI b * 6 + nI i = nI (b * 6 + i) := by
  rw [show nI b * 6 = nI (b * 6) from pk_mul b 6, nI_add]
theorem nt_6a (f : Nat) : 6 + nI f = nI (6 + f) := nI_add 6 f
theorem nt_m8 (b : Nat) : nI b * 8 = nI (8 * b) := by
  rw [show nI b * 8 = nI (b * 8) from pk_mul b 8, Nat.mul_comm]
theorem nt_a8 (b : Nat) : nI b + 8 = nI (b + 8) := nI_add b 8
theorem nt_par {N : Nat} (h : N < 2 ^ 31) : nI N &&& 1 = nI (N % 2) := pk_andN (by omega) 1 (by decide)
theorem nt_cl {n : Nat} (h : n < 4096) : (nI n).toNatClampNeg = n := nI_clamp (by omega)
theorem nt_u0 {f : Nat → Int32} {k j : Nat} (h : upd f k 1 j = 0) : j ≠ k ∧ f j = 0 := by
  unfold upd at h
  split at h
  · exact absurd h (by decide)
  · exact ⟨by assumption, h⟩
/-! counting marks -/
def nt_cnt (ne : Nat → Int32) : Nat → Nat
  | 0 => 0
  | n + 1 => nt_cnt ne n + (if ne n = 0 then 0 else 1)
theorem nt_cnt_s (ne : Nat → Int32) (n : Nat) : nt_cnt ne (n + 1) = nt_cnt ne n + (if ne n = 0 then 0 else 1) := rfl
theorem nt_cnt_lo {ne : Nat → Int32} {b : Nat} {x : Int32} : ∀ n, n ≤ b → nt_cnt (upd ne b x) n = nt_cnt ne n := by
  intro n
  induction n with
  | zero => intro _; rfl
  | succ n ih =>
    intro h
    rw [nt_cnt_s, nt_cnt_s, ih (by omega), pk_un (by omega)]
theorem nt_cnt_u {ne : Nat → Int32} {b : Nat} {x : Int32} : ∀ n, nt_cnt (upd ne b x) n ≤ nt_cnt ne n + 1 := by
  intro n
  induction n with
  | zero => exact Nat.le_succ _
  | succ n ih =>
    rw [nt_cnt_s, nt_cnt_s]
    by_cases h : n = b
    · subst h
      rw [nt_cnt_lo n (Nat.le_refl n)]
      split <;> split <;> omega
    · rw [pk_un h]
      omega
theorem nt_cnt_0 {ne : Nat → Int32} : ∀ n, (∀ b, b < n → ne b = 0) → nt_cnt ne n = 0 := by
  intro n
  induction n with
  | zero => intro _; rfl
  | succ n ih =>
    intro h
    rw [nt_cnt_s, ih (fun b hb => h b (by omega)), if_pos (h n (by omega))]
theorem nt_cnt_x {ne : Nat → Int32} : ∀ n, nt_cnt ne n < n → ∃ b, b < n ∧ ne b = 0 := by
  intro n
  induction n with
  | zero => intro h; omega
  | succ n ih =>
    intro h
    rw [nt_cnt_s] at h
    by_cases z : ne n = 0
    · exact ⟨n, by omega, z⟩
    · rw [if_neg z] at h
      obtain ⟨b, hb, hz⟩ := ih (by omega)
      exact ⟨b, by omega, hz⟩
/-! nodes -/
def nt_Gd (ns nw : Nat → Int32) (x : Int32) : Prop :=
  x = -1 ∨ ∃ b s : Nat, b < 128 ∧ s ≤ 4 ∧ x = nI b ∧ ns b = nI s ∧ ∀ i, i < s → ∃ d, d < 128 ∧ nw (4 * b + i) = nI d
def nt_Nd (wd ns nw : Nat → Int32) (x t z : Int32) (w : Nat → Int32) : Prop :=
  (x = -1 ∧ t = 0) ∨ (t = 1 ∧ ∃ b s : Nat, b < 128 ∧ s ≤ 4 ∧ x = nI b ∧ z = nI s ∧ ns b = nI s ∧ ∀ i, i < s → ∃ d, d < 128 ∧ nw (4 * b + i) = nI d ∧ wd d = w i)
def nt_Av (ns nw : Nat → Int32) (x : Int32) (b : Nat) : Prop :=
  x ≠ nI b ∧ ∀ a s i : Nat, a < 128 → s ≤ 4 → x = nI a → ns a = nI s → i < s → nw (4 * a + i) ≠ nI b
/-- what survey() asks of the state -/
def nt_SO (N m : Nat) (G : Nat → Nat) (ch : Int32) (ns nw cn pn pc no la : Nat → Int32) : Prop :=
  N < 2 ^ 31 ∧ m ≤ 20 ∧ (ch = -1 ∨ ∃ c, c < 128 ∧ ch = nI c) ∧
  (∀ f, f < 6 → nt_Gd ns nw (no f) ∧ nt_Gd ns nw (la f) ∧ nt_Gd ns nw (pn (N % 2 * 6 + f))) ∧
  (0 < m → pc (N % 2) = nI (G 0)) ∧ (∀ i, i < m → G i < 128 ∧ (i + 1 < m → cn (G i) = nI (G (i + 1))))
/-- block b is needed by nothing -/
def nt_Fr (N m : Nat) (G : Nat → Nat) (ch : Int32) (ns nw pn no la : Nat → Int32) (b : Nat) : Prop :=
  b < 128 ∧ (∀ f, f < 6 → nt_Av ns nw (no f) b ∧ nt_Av ns nw (la f) b ∧ nt_Av ns nw (pn (N % 2 * 6 + f)) b) ∧
  ch ≠ nI b ∧ (∀ i, i < m → G i ≠ b)
theorem nt_Nd_Gd {wd ns nw : Nat → Int32} {x t z : Int32} {w : Nat → Int32} (h : nt_Nd wd ns nw x t z w) : nt_Gd ns nw x := by
  rcases h with ⟨h, _⟩ | ⟨_, b, s, hb, hs, ex, _, es, hd⟩
  · exact Or.inl h
  · refine Or.inr ⟨b, s, hb, hs, ex, es, fun i hi => ?_⟩
    obtain ⟨d, h1, h2, _⟩ := hd i hi
    exact ⟨d, h1, h2⟩
end NTa
end
section
section NTb
variable {ch cd nu sg : Int32} {wd nf ns nw mk cn pb pe pn pc no la yo ne : Nat → Int32}
theorem nt_need15 {post : SX → Prop} {b s : Nat} (hb : b < 128) (hs : s ≤ 4) (es : ns b = nI s) (hd : ∀ i, i < s → ∃ d, d < 128 ∧ nw (4 * b + i) = nI d) :
    ∀ (n i : Nat) (ne : Nat → Int32), s - i < n → i ≤ s →
    (∀ ne', (∀ a, ne' a = 0 → ne a = 0) → nt_cnt ne' 128 ≤ nt_cnt ne 128 + (s - i) → (∀ j a, i ≤ j → j < s → a < 128 → nw (4 * b + j) = nI a → ne' a ≠ 0) → post (ch, cd, nu, sg, wd, nf, ns, nw, mk, cn, pb, pe, pn, pc, no, la, yo, ne')) →
    wX_need_15 post (nI b) ch cd nu sg n (nI i) wd nf ns nw mk cn pb pe pn pc no la yo ne := by
  intro n
  induction n with
  | zero => intro i ne h; omega
  | succ n ih =>
    intro i ne h1 h2 hp
    rw [wX_need_15]
    dsimp only
    refine ⟨vp_in_nI hb (by omega), ?_⟩
    rw [nI_clamp (by omega), es]
    refine pk_le s i (fun h => ?_) (fun h => ?_)
    · exact hp ne (fun a h => h) (by omega) (fun j a hj1 hj2 => by omega)
    · obtain ⟨d, hd1, hd2⟩ := hd i h
      rw [nt_m4, nI_clamp (n := 4 * b + i) (by omega), hd2, nI_clamp (n := d) (by omega), nt_b1]
      refine ⟨vp_in_nI (by omega) (by omega), vp_in_nI hd1 (by omega), nm_e (nm_r (nI_1 i) ?_)⟩
      refine ih (i + 1) _ (by omega) (by omega) (fun ne' hm hc hj => hp ne' (fun a ha => (nt_u0 (hm a ha)).2) ?_ (fun j a hj1 hj2 ha e z => ?_))
      · have := nt_cnt_u (ne := ne) (b := d) (x := 1) 128
        omega
      · by_cases e' : j = i
        · subst e'
          rw [hd2] at e
          exact (nt_u0 (hm a z)).1 (nt_im e (by omega) (by omega)).symm
        · exact hj j a (by omega) hj2 ha e z
theorem nt_need {post : SX → Prop} {x : Int32} (h : nt_Gd ns nw x)
    (hp : ∀ ne', (∀ a, ne' a = 0 → ne a = 0) → nt_cnt ne' 128 ≤ nt_cnt ne 128 + 5 → (∀ a, a < 128 → ne' a = 0 → nt_Av ns nw x a) → post (ch, cd, nu, sg, wd, nf, ns, nw, mk, cn, pb, pe, pn, pc, no, la, yo, ne')) :
    wpX_need post (ch, cd, nu, sg, wd, nf, ns, nw, mk, cn, pb, pe, pn, pc, no, la, yo, ne) x := by
  unfold wpX_need
  dsimp only
  rcases h with rfl | ⟨b, s, hb, hs, rfl, es, hd⟩
  · exact br_t rfl (hp ne (fun a h => h) (by omega) (fun a _ _ => ⟨fun e => absurd e.symm (nt_ne1 (by omega)), fun a' s i ha' _ e => absurd e.symm (nt_ne1 (by omega))⟩))
  · refine br_f (nt_ne1 (by omega)) ⟨vp_in_nI hb (by omega), nm_e ⟨s + 1, ?_⟩⟩
    rw [nI_clamp (by omega), nt_b1]
    refine nt_need15 hb hs es hd _ 0 _ (by omega) (by omega) (fun ne' hm hc hj => hp ne' (fun a ha => (nt_u0 (hm a ha)).2) ?_ (fun a ha1 ha2 => ⟨fun e => ?_, fun a' s' i ha' hs' e es' hi e' => ?_⟩))
    · have := nt_cnt_u (ne := ne) (b := b) (x := 1) 128
      omega
    · exact (nt_u0 (hm a ha2)).1 (nt_im e (by omega) (by omega)).symm
    · have : b = a' := nt_im e (by omega) (by omega)
      subst this
      rw [es] at es'
      have : s = s' := nt_im es' (by omega) (by omega)
      subst this
      exact hj i a (by omega) hi ha1 e' ha2
end NTb
end
section
section NTc
variable {ch cd nu sg : Int32} {wd nf ns nw mk cn pb pe pn pc no la yo ne : Nat → Int32}
theorem nt_sv108 {post : SX → Prop} {m : Nat} {G : Nat → Nat} (hm : m ≤ 20) (hG : ∀ i, i < m → G i < 128 ∧ (i + 1 < m → cn (G i) = nI (G (i + 1)))) :
    ∀ (n i : Nat) (x : Int32) (ne : Nat → Int32), m - i < n → i ≤ m → (i < m → x = nI (G i)) →
    (∀ ne', (∀ a, ne' a = 0 → ne a = 0) → nt_cnt ne' 128 ≤ nt_cnt ne 128 + (m - i) → (∀ j, i ≤ j → j < m → ne' (G j) ≠ 0) → post (ch, nI m, nu, sg, wd, nf, ns, nw, mk, cn, pb, pe, pn, pc, no, la, yo, ne')) →
    wX_survey_108 post ch (nI m) nu sg n x (nI i) wd nf ns nw mk cn pb pe pn pc no la yo ne := by
  intro n
  induction n with
  | zero => intro i x ne h; omega
  | succ n ih =>
    intro i x ne h1 h2 hx hp
    rw [wX_survey_108]
    dsimp only
    refine pk_le m i (fun h => ?_) (fun h => ?_)
    · exact hp ne (fun a h => h) (by omega) (fun j hj1 hj2 => by omega)
    · obtain ⟨g1, g2⟩ := hG i h
      rw [hx h, nI_clamp (n := G i) (by omega), nt_b1]
      refine ⟨vp_in_nI g1 (by omega), nm_e ⟨vp_in_nI g1 (by omega), nm_e (nm_r (nI_1 i) ?_)⟩⟩
      refine ih (i + 1) _ _ (by omega) (by omega) (fun h => g2 h) (fun ne' hm' hc hj => hp ne' (fun a ha => (nt_u0 (hm' a ha)).2) ?_ (fun j hj1 hj2 z => ?_))
      · have := nt_cnt_u (ne := ne) (b := G i) (x := 1) 128
        omega
      · by_cases e' : j = i
        · subst e'
          exact (nt_u0 (hm' _ z)).1 rfl
        · exact hj j (by omega) hj2 z
theorem nt_sv94 {post : SX → Prop} {N m : Nat} {G : Nat → Nat} (hN : N < 2 ^ 31) (hm : m ≤ 20) (h0 : 0 < m → pc (N % 2) = nI (G 0)) (hG : ∀ i, i < m → G i < 128 ∧ (i + 1 < m → cn (G i) = nI (G (i + 1))))
    (hp : ∀ ne', (∀ a, ne' a = 0 → ne a = 0) → nt_cnt ne' 128 ≤ nt_cnt ne 128 + 20 → (∀ j, j < m → ne' (G j) ≠ 0) → post (ch, nI m, nI N, sg, wd, nf, ns, nw, mk, cn, pb, pe, pn, pc, no, la, yo, ne')) :
    wX_survey_94 post ch (nI m) (nI N) sg wd nf ns nw mk cn pb pe pn pc no la yo ne := by
  unfold wX_survey_94
  rw [nt_par hN, nI_clamp (n := N % 2) (by omega)]
  refine ⟨vp_in_nI (by omega) (by omega), nm_e ⟨m + 1, ?_⟩⟩
  exact nt_sv108 hm hG _ 0 _ _ (by omega) (by omega) h0 (fun ne' h1 h2 h3 => hp ne' h1 (by omega) (fun j hj => h3 j (by omega) hj))
theorem nt_svT {post : SX → Prop} {N m : Nat} {G : Nat → Nat} (so : nt_SO N m G ch ns nw cn pn pc no la)
    (hp : ∀ ne', (∀ a, ne' a = 0 → ne a = 0) → nt_cnt ne' 128 ≤ nt_cnt ne 128 + 21 → (∀ a, a < 128 → ne' a = 0 → ch ≠ nI a ∧ ∀ j, j < m → G j ≠ a) → post (ch, nI m, nI N, sg, wd, nf, ns, nw, mk, cn, pb, pe, pn, pc, no, la, yo, ne')) :
    ((ch = (-1) → wX_survey_94 post ch (nI m) (nI N) sg wd nf ns nw mk cn pb pe pn pc no la yo ne) ∧ (¬ ch = (-1) → (vp_in ch 128 ∧ ∀ ne1 : Nat → Int32, ne1 = upd ne ch.toNatClampNeg (vp_nar .boolean 1) → wX_survey_94 post ch (nI m) (nI N) sg wd nf ns nw mk cn pb pe pn pc no la yo ne1))) := by
  obtain ⟨hN, hm, hc, _, h0, hG⟩ := so
  rcases hc with rfl | ⟨c, hc, rfl⟩
  · refine br_t rfl (nt_sv94 hN hm h0 hG (fun ne' h1 h2 h3 => hp ne' h1 (by omega) (fun a ha z => ⟨fun e => absurd e.symm (nt_ne1 (by omega)), fun j hj e => ?_⟩)))
    exact h3 j hj (e ▸ z)
  · refine br_f (nt_ne1 (by omega)) ⟨vp_in_nI hc (by omega), nm_e ?_⟩
    rw [nI_clamp (by omega), nt_b1]
    refine nt_sv94 hN hm h0 hG (fun ne' h1 h2 h3 => hp ne' (fun a ha => (nt_u0 (h1 a ha)).2) ?_ (fun a ha z => ⟨fun e => ?_, fun j hj e => ?_⟩))
    · have := nt_cnt_u (ne := ne) (b := c) (x := 1) 128
      omega
    · exact (nt_u0 (h1 a z)).1 (nt_im e (by omega) (by omega)).symm
    · exact h3 j hj (e ▸ z)
theorem nt_sv24 {post : SX → Prop} {N m : Nat} {G : Nat → Nat} (so : nt_SO N m G ch ns nw cn pn pc no la) :
    ∀ (n f : Nat) (ne : Nat → Int32), 6 - f < n → f ≤ 6 →
    (∀ ne', (∀ a, ne' a = 0 → ne a = 0) → nt_cnt ne' 128 ≤ nt_cnt ne 128 + 15 * (6 - f) + 21 →
      (∀ a, a < 128 → ne' a = 0 → (∀ g, f ≤ g → g < 6 → nt_Av ns nw (no g) a ∧ nt_Av ns nw (la g) a ∧ nt_Av ns nw (pn (N % 2 * 6 + g)) a) ∧ ch ≠ nI a ∧ ∀ j, j < m → G j ≠ a) → post (ch, nI m, nI N, sg, wd, nf, ns, nw, mk, cn, pb, pe, pn, pc, no, la, yo, ne')) →
    wX_survey_24 post n (nI f) ch (nI m) (nI N) sg wd nf ns nw mk cn pb pe pn pc no la yo ne := by
  intro n
  induction n with
  | zero => intro f ne h; omega
  | succ n ih =>
    intro f ne h1 h2 hp
    rw [wX_survey_24]
    dsimp only
    refine pk_le 6 f (fun h => ?_) (fun h => ?_)
    · exact nt_svT so (fun ne' k1 k2 k3 => hp ne' k1 (by omega) (fun a ha z => ⟨fun g hg1 hg2 => by omega, k3 a ha z⟩))
    · obtain ⟨hN, hm, hc, hg, h0, hG⟩ := id so
      obtain ⟨g1, g2, g3⟩ := hg f h
      rw [nI_clamp (n := f) (by omega)]
      refine ⟨vp_in_nI h (by omega), nt_need g1 (fun ne1 a1 b1 c1 => ?_)⟩
      dsimp only
      refine ⟨vp_in_nI h (by omega), nt_need g2 (fun ne2 a2 b2 c2 => ?_)⟩
      dsimp only
      rw [nt_par hN, nt_m6, nI_clamp (n := N % 2 * 6 + f) (by omega)]
      refine ⟨vp_in_nI (by omega) (by omega), nt_need g3 (fun ne3 a3 b3 c3 => ?_)⟩
      dsimp only
      refine nm_r (nI_1 f) ?_
      refine ih (f + 1) ne3 (by omega) (by omega) (fun ne' k1 k2 k3 => hp ne' (fun a ha => a1 a (a2 a (a3 a (k1 a ha)))) (by omega) (fun a ha z => ⟨fun g hg1 hg2 => ?_, (k3 a ha z).2⟩))
      by_cases e : g = f
      · subst e
        exact ⟨c1 a ha (a2 a (a3 a (k1 a z))), c2 a ha (a3 a (k1 a z)), c3 a ha (k1 a z)⟩
      · exact (k3 a ha z).1 g (by omega) hg2
theorem nt_sv2 {post : SX → Prop} {N m : Nat} {G : Nat → Nat} (so : nt_SO N m G ch ns nw cn pn pc no la)
    (hp : ∀ ne', nt_cnt ne' 128 ≤ 111 → (∀ a, a < 128 → ne' a = 0 → nt_Fr N m G ch ns nw pn no la a) → post (ch, nI m, nI N, sg, wd, nf, ns, nw, mk, cn, pb, pe, pn, pc, no, la, yo, ne')) :
    ∀ (n b : Nat) (ne : Nat → Int32), 128 - b < n → b ≤ 128 → (∀ a, a < b → ne a = 0) →
    wX_survey_2 post ch (nI m) (nI N) sg n (nI b) wd nf ns nw mk cn pb pe pn pc no la yo ne := by
  intro n
  induction n with
  | zero => intro f ne h; omega
  | succ n ih =>
    intro b ne h1 h2 hz
    rw [wX_survey_2]
    dsimp only
    refine pk_le 128 b (fun h => ?_) (fun h => ?_)
    · refine ⟨7, nt_sv24 so 7 0 ne (by omega) (by omega) (fun ne' k1 k2 k3 => hp ne' ?_ (fun a ha z => ⟨ha, fun f hf => (k3 a ha z).1 f (by omega) hf, (k3 a ha z).2⟩))⟩
      rw [nt_cnt_0 128 (fun b hb => hz b (by omega))] at k2
      omega
    · rw [nI_clamp (n := b) (by omega), nt_b0]
      refine ⟨vp_in_nI h (by omega), nm_e (nm_r (nI_1 b) ?_)⟩
      refine ih (b + 1) _ (by omega) (by omega) (fun a ha => ?_)
      by_cases e : a = b
      · subst e; exact pk_us
      · rw [pk_un e]; exact hz a (by omega)
theorem nt_survey {post : SX → Prop} {N m : Nat} {G : Nat → Nat} (so : nt_SO N m G ch ns nw cn pn pc no la)
    (hp : ∀ ne', nt_cnt ne' 128 ≤ 111 → (∀ a, a < 128 → ne' a = 0 → nt_Fr N m G ch ns nw pn no la a) → post (ch, nI m, nI N, sg, wd, nf, ns, nw, mk, cn, pb, pe, pn, pc, no, la, yo, ne')) :
    wpX_survey post (ch, nI m, nI N, sg, wd, nf, ns, nw, mk, cn, pb, pe, pn, pc, no, la, yo, ne) := by
  unfold wpX_survey
  dsimp only
  exact ⟨129, nt_sv2 so hp 129 0 ne (by omega) (by omega) (fun a ha => by omega)⟩
end NTc
end
section
section NTd
variable {ch cd nu sg : Int32} {wd nf ns nw mk cn pb pe pn pc no la yo ne : Nat → Int32}
theorem nt_lt1 {a : Nat} (h : a < 4096) : nI a + (-1) < nI a := by
  cases a with
  | zero => decide
  | succ a => rw [pk_m1]; exact nI_lt (by omega) (by omega)
theorem nt_fi7 {post : Int32 → Prop} {s : Nat} (hs : s < 16) (hp : ∀ r, r ≤ 8 → (r = 0 ↔ ∀ i, i < 8 → ne (8 * s + i) ≠ 0) → post (nI r)) :
    ∀ (n r j : Nat), 8 - j < n → j ≤ 8 → r ≤ j → (r = 0 ↔ ∀ i, i < j → ne (8 * s + i) ≠ 0) →
    wX_freeIn_7 post (nI s) ch cd nu sg wd nf ns nw mk cn pb pe pn pc no la yo ne n (nI r) (nI (8 * s + j)) := by
  intro n
  induction n with
  | zero => intro r j h; omega
  | succ n ih =>
    intro r j h1 h2 h3 h4
    rw [wX_freeIn_7]
    dsimp only
    rw [nt_m8, nt_a8]
    refine pk_le (8 * s + 8) (8 * s + j) (fun h => ?_) (fun h => ?_)
    · have : j = 8 := by omega
      subst this
      exact hp r h3 h4
    · refine ⟨vp_in_nI (by omega) (by omega), ?_⟩
      rw [nI_clamp (by omega)]
      refine br_c (fun z => nm_r (nI_1 r) (nm_r (nI_1 _) ?_)) (fun z => nm_r (nI_1 _) ?_)
      · refine ih (r + 1) (j + 1) (by omega) (by omega) (by omega) ⟨fun e => by omega, fun e => absurd z (e j (by omega))⟩
      · refine ih r (j + 1) (by omega) (by omega) (by omega) ⟨fun e i hi => ?_, fun e => h4.mpr (fun i hi => e i (by omega))⟩
        by_cases e' : i = j
        · subst e'; exact z
        · exact h4.mp e i (by omega)
theorem nt_freeIn {post : Int32 → Prop} {s : Nat} (hs : s < 16) (hp : ∀ r, r ≤ 8 → (r = 0 ↔ ∀ i, i < 8 → ne (8 * s + i) ≠ 0) → post (nI r)) :
    wpX_freeIn post (ch, cd, nu, sg, wd, nf, ns, nw, mk, cn, pb, pe, pn, pc, no, la, yo, ne) (nI s) := by
  unfold wpX_freeIn
  dsimp only
  refine nm_r (nt_m8 s) ⟨9, nt_fi7 hs hp 9 0 0 (by omega) (by omega) (by omega) ⟨fun _ i hi => by omega, fun _ => rfl⟩⟩
theorem nt_fr75 {post : Int32 → SX → Prop} {s : Nat} (hs : s < 16) (hz : ∃ i, i < 8 ∧ ne (8 * s + i) = 0)
    (hp : ∀ d, d < 128 → ne d = 0 → post (nI d) (ch, cd, nu, nI s, wd, nf, ns, nw, upd mk d (-1), cn, pb, pe, pn, pc, no, la, yo, ne)) :
    ∀ (n j d : Nat), j < n → j ≤ 8 → 8 * s ≤ d → d < 8 * s + 8 → (ne d = 0 ∨ ∀ i, j ≤ i → i < 8 → ne (8 * s + i) ≠ 0) →
    wX_fresh_75 post ch cd nu (nI s) wd nf ns nw mk cn pb pe pn pc no la yo ne n (nI d) (nI (8 * s + j) + (-1)) := by
  intro n
  induction n with
  | zero => intro r j h; omega
  | succ n ih =>
    intro j d h1 h2 h3 h4 h5
    rw [wX_fresh_75]
    dsimp only
    rw [nt_m8]
    cases j with
    | zero =>
      refine br_t (nt_lt1 (by omega)) ⟨vp_in_nI (by omega) (by omega), ?_⟩
      rw [nI_clamp (by omega)]
      refine nm_e (hp d (by omega) ?_)
      rcases h5 with h5 | h5
      · exact h5
      · obtain ⟨i, hi, z⟩ := hz
        exact absurd z (h5 i (by omega) hi)
    | succ j =>
      rw [show 8 * s + (j + 1) = (8 * s + j) + 1 from rfl, pk_m1]
      refine pk_lt (8 * s + j) (8 * s) (fun h => by omega) (fun h => ⟨vp_in_nI (by omega) (by omega), ?_⟩)
      rw [nI_clamp (by omega)]
      refine br_c (fun z => nm_e ?_) (fun z => nm_e ?_)
      · exact ih j (8 * s + j) (by omega) (by omega) (by omega) (by omega) (Or.inl z)
      · refine ih j d (by omega) (by omega) h3 h4 ?_
        rcases h5 with h5 | h5
        · exact Or.inl h5
        · refine Or.inr (fun i hi1 hi2 => ?_)
          by_cases e' : i = j
          · subst e'; exact z
          · exact h5 i (by omega) hi2
theorem nt_fr54 {post : Int32 → SX → Prop} {s : Nat} (hs : s < 16) (hz : ∃ i, i < 8 ∧ ne (8 * s + i) = 0)
    (hp : ∀ d, d < 128 → ne d = 0 → post (nI d) (ch, cd, nu, nI s, wd, nf, ns, nw, upd mk d (-1), cn, pb, pe, pn, pc, no, la, yo, ne)) :
    wX_fresh_54 post ch cd nu (nI s) wd nf ns nw mk cn pb pe pn pc no la yo ne := by
  unfold wX_fresh_54
  refine nm_r (nt_m8 s) (nm_r (e' := nI (8 * s + 8) + (-1)) (by rw [nt_m8, nt_a8, Int32.sub_eq_add_neg]) ⟨9, ?_⟩)
  exact nt_fr75 hs hz hp 9 8 (8 * s) (by omega) (by omega) (by omega) (by omega) (Or.inr (fun i _ _ => by omega))
def nt_Z (ne : Nat → Int32) (s : Nat) : Prop := ∃ i, i < 8 ∧ ne (8 * s + i) = 0
theorem nt_fr21 {post : Int32 → SX → Prop} (hz : ∃ b, b < 128 ∧ ne b = 0)
    (hp : ∀ s d, s < 16 → d < 128 → ne d = 0 → post (nI d) (ch, cd, nu, nI s, wd, nf, ns, nw, upd mk d (-1), cn, pb, pe, pn, pc, no, la, yo, ne)) :
    ∀ (n k q s : Nat), 16 - k < n → k ≤ 16 → s < 16 → q ≤ 8 → (q = 0 → ∀ a, a < 8 * k → ne a ≠ 0) → (0 < q → nt_Z ne s) →
    wX_fresh_21 post ch cd nu wd nf ns nw mk cn pb pe pn pc no la yo ne n (nI q) (nI k) (nI s) := by
  intro n
  induction n with
  | zero => intro r j s h; omega
  | succ n ih =>
    intro k q s h1 h2 h3 h4 h5 h6
    rw [wX_fresh_21]
    dsimp only
    refine pk_le 16 k (fun h => ?_) (fun h => ?_)
    · refine nt_fr54 h3 (h6 ?_) (fun d => hp s d h3)
      obtain ⟨b, hb, z⟩ := hz
      by_cases e : q = 0
      · exact absurd z (h5 e b (by omega))
      · omega
    · refine nt_freeIn h (fun r hr er => ?_)
      refine pk_le r q (fun e => nm_r (nI_1 k) ?_) (fun e => nm_r (nI_1 k) ?_)
      · refine ih (k + 1) q s (by omega) (by omega) h3 h4 (fun e0 a ha => ?_) h6
        by_cases e' : a < 8 * k
        · exact h5 e0 a e'
        · have := er.mp (by omega) (a - 8 * k) (by omega)
          rw [show 8 * k + (a - 8 * k) = a from by omega] at this
          exact this
      · refine ih (k + 1) r k (by omega) (by omega) h hr (fun e0 => by omega) (fun _ => ?_)
        refine Classical.byContradiction (fun hn => ?_)
        have : r = 0 := er.mpr (fun i hi z => hn ⟨i, hi, z⟩)
        omega
theorem nt_fresh {post : Int32 → SX → Prop} {N m s : Nat} {G : Nat → Nat} (so : nt_SO N m G ch ns nw cn pn pc no la) (hs : s < 16)
    (hp : ∀ b s' ne', s' < 16 → nt_Fr N m G ch ns nw pn no la b → post (nI b) (ch, nI m, nI N, nI s', wd, nf, ns, nw, upd mk b (-1), cn, pb, pe, pn, pc, no, la, yo, ne')) :
    wpX_fresh post (ch, nI m, nI N, nI s, wd, nf, ns, nw, mk, cn, pb, pe, pn, pc, no, la, yo, ne) := by
  unfold wpX_fresh
  dsimp only
  refine nt_survey so (fun ne' hc hf => ?_)
  dsimp only
  have hz := nt_cnt_x 128 (by omega : nt_cnt ne' 128 < 128)
  have hq : ∀ s d, s < 16 → d < 128 → ne' d = 0 → post (nI d) (ch, nI m, nI N, nI s, wd, nf, ns, nw, upd mk d (-1), cn, pb, pe, pn, pc, no, la, yo, ne') := fun s d h1 h2 h3 => hp d s ne' h1 (hf d h2 h3)
  refine nt_freeIn hs (fun r hr er => ?_)
  refine pk_eq r 0 (fun e => ⟨17, ?_⟩) (fun e => ?_)
  · exact nt_fr21 hz hq 17 0 0 s (by omega) (by omega) hs (by omega) (fun _ a ha => by omega) (fun h => by omega)
  · refine nt_fr54 hs ?_ (fun d => hq s d hs)
    refine Classical.byContradiction (fun hn => e (er.mpr (fun i hi z => hn ⟨i, hi, z⟩)))
end NTd
end
section
section NTe
variable {wd ns nw wd' ns' nw' : Nat → Int32} {x t z : Int32} {w : Nat → Int32}
/-- node x reads alike in both stores -/
def nt_Sm (wd ns nw wd' ns' nw' : Nat → Int32) (x : Int32) : Prop :=
  ∀ a s : Nat, a < 128 → s ≤ 4 → x = nI a → ns a = nI s → ns' a = nI s ∧ ∀ i, i < s → nw' (4 * a + i) = nw (4 * a + i) ∧ ∀ d, d < 128 → nw (4 * a + i) = nI d → wd' d = wd d
theorem nt_Nd_fr (h : nt_Nd wd ns nw x t z w) (sm : nt_Sm wd ns nw wd' ns' nw' x) : nt_Nd wd' ns' nw' x t z w := by
  rcases h with h | ⟨ht, b, s, hb, hs, ex, ez, es, hd⟩
  · exact Or.inl h
  · obtain ⟨k1, k2⟩ := sm b s hb hs ex es
    refine Or.inr ⟨ht, b, s, hb, hs, ex, ez, k1, fun i hi => ?_⟩
    obtain ⟨d, h1, h2, h3⟩ := hd i hi
    obtain ⟨k3, k4⟩ := k2 i hi
    exact ⟨d, h1, k3.trans h2, (k4 d h1 h2).trans h3⟩
theorem nt_Gd_fr (h : nt_Gd ns nw x) (sm : nt_Sm wd ns nw wd' ns' nw' x) : nt_Gd ns' nw' x := by
  rcases h with h | ⟨b, s, hb, hs, ex, es, hd⟩
  · exact Or.inl h
  · obtain ⟨k1, k2⟩ := sm b s hb hs ex es
    refine Or.inr ⟨b, s, hb, hs, ex, k1, fun i hi => ?_⟩
    obtain ⟨d, h1, h2⟩ := hd i hi
    exact ⟨d, h1, (k2 i hi).1.trans h2⟩
theorem nt_Sm_rf : nt_Sm wd ns nw wd ns nw x := fun _ _ _ _ _ es => ⟨es, fun _ _ => ⟨rfl, fun _ _ _ => rfl⟩⟩
/-- only the node at block b was written -/
theorem nt_Sm_b {b : Nat} (hb : b < 128) (hx : x ≠ nI b) (h1 : ∀ a, a ≠ b → ns' a = ns a) (h2 : ∀ j, j < 4 * b ∨ 4 * b + 4 ≤ j → nw' j = nw j) : nt_Sm wd ns nw wd ns' nw' x := by
  intro a s ha hs ex es
  have e : a ≠ b := fun e => hx (e ▸ ex)
  refine ⟨(h1 a e).trans es, fun i hi => ⟨h2 _ (by omega), fun _ _ _ => rfl⟩⟩
/-- a word in the node at block b was written, into block d -/
theorem nt_Sm_w {b d : Nat} (hb : b < 128) (hx : x ≠ nI b) (av : nt_Av ns nw x d) (h1 : ∀ a, a ≠ b → ns' a = ns a) (h2 : ∀ j, j < 4 * b ∨ 4 * b + 4 ≤ j → nw' j = nw j) (h3 : ∀ a, a ≠ d → wd' a = wd a) : nt_Sm wd ns nw wd' ns' nw' x := by
  intro a s ha hs ex es
  have e : a ≠ b := fun e => hx (e ▸ ex)
  refine ⟨(h1 a e).trans es, fun i hi => ⟨h2 _ (by omega), fun q hq eq => h3 q (fun e' => ?_)⟩⟩
  exact av.2 a s i ha hs ex es hi (e' ▸ eq)
def nt_roll (G F : Nat → Nat) (p : Nat → Int32) : Nat → Nat → Int32
  | 0, f => p f
  | i + 1, f => if F i = f then nI (G i) else nt_roll G F p i f
theorem nt_roll_s (G F : Nat → Nat) (p : Nat → Int32) (i f : Nat) : nt_roll G F p (i + 1) f = if F i = f then nI (G i) else nt_roll G F p i f := rfl
theorem nt_roll_c {G F G' F' : Nat → Nat} {p : Nat → Int32} : ∀ (m f : Nat), (∀ i, i < m → G' i = G i ∧ F' i = F i) → nt_roll G' F' p m f = nt_roll G F p m f := by
  intro m
  induction m with
  | zero => intro f _; rfl
  | succ m ih =>
    intro f h
    rw [nt_roll_s, nt_roll_s, ih f (fun i hi => h i (by omega)), (h m (by omega)).1, (h m (by omega)).2]
/-- the component's state against the reference's files -/
def nt_XI (N m c : Nat) (G F : Nat → Nat) (wd nf ns nw mk cn pn pc no la th sz ws : Nat → Int32) : Prop :=
  N < 2 ^ 31 ∧ m ≤ 20 ∧ c < 128 ∧
  (∀ f, f < 6 → nt_Nd wd ns nw (no f) (th f) (sz f) (fun i => ws (4 * f + i))) ∧
  (∀ f, f < 6 → nt_Nd wd ns nw (la f) (th (6 + f)) (sz (6 + f)) (fun i => ws (4 * (6 + f) + i))) ∧
  (∀ f, f < 6 → nt_Gd ns nw (pn (N % 2 * 6 + f))) ∧
  (∀ f, f < 6 → no f ≠ nI c ∧ la f ≠ nI c ∧ pn (N % 2 * 6 + f) ≠ nI c) ∧
  (pc (N % 2) = nI (G 0) ∧ G m = c ∧ mk c ≠ nI N ∧ ∀ i, i < m → G i < 128 ∧ cn (G i) = nI (G (i + 1)) ∧ mk (G i) = nI N ∧ F i < 6 ∧ nf (G i) = nI (F i)) ∧
  (∀ f, f < 6 → la f = nt_roll G F (fun f => pn (N % 2 * 6 + f)) m f)
variable {N m c b f : Nat} {G F : Nat → Nat} {nf mk cn pn pc no la th sz ws nf' mk' no' th' sz' ws' : Nat → Int32}
theorem nt_XI_SO (X : nt_XI N m c G F wd nf ns nw mk cn pn pc no la th sz ws) : nt_SO N m G (nI c) ns nw cn pn pc no la := by
  obtain ⟨hN, hm, hc, hA, hB, hP, hD, ⟨c1, c2, c3, c4⟩, hL⟩ := X
  exact ⟨hN, hm, Or.inr ⟨c, hc, rfl⟩, fun f hf => ⟨nt_Nd_Gd (hA f hf), nt_Nd_Gd (hB f hf), hP f hf⟩, fun _ => c1, fun i hi => ⟨(c4 i hi).1, fun _ => (c4 i hi).2.1⟩⟩
theorem nt_XI_fr (X : nt_XI N m c G F wd nf ns nw mk cn pn pc no la th sz ws) (hf : f < 6)
    (sm : ∀ g, g < 6 → (g ≠ f → nt_Sm wd ns nw wd' ns' nw' (no g)) ∧ nt_Sm wd ns nw wd' ns' nw' (la g) ∧ nt_Sm wd ns nw wd' ns' nw' (pn (N % 2 * 6 + g)))
    (hnf : ∀ i, i < m → nf' (G i) = nf (G i)) (hmk : ∀ i, i ≤ m → mk' (G i) = mk (G i))
    (hno : ∀ g, g < 6 → g ≠ f → no' g = no g) (hc' : no' f ≠ nI c)
    (nd : nt_Nd wd' ns' nw' (no' f) (th' f) (sz' f) (fun i => ws' (4 * f + i)))
    (hth : ∀ g, g < 12 → g ≠ f → th' g = th g) (hsz : ∀ g, g < 12 → g ≠ f → sz' g = sz g) (hws : ∀ g i, g < 12 → i < 4 → g ≠ f → ws' (4 * g + i) = ws (4 * g + i)) :
    nt_XI N m c G F wd' nf' ns' nw' mk' cn pn pc no' la th' sz' ws' := by
  obtain ⟨hN, hm, hc, hA, hB, hP, hD, ⟨c1, c2, c3, c4⟩, hL⟩ := X
  have tr : ∀ g x, g < 12 → g ≠ f → nt_Nd wd' ns' nw' x (th g) (sz g) (fun i => ws (4 * g + i)) → nt_Nd wd' ns' nw' x (th' g) (sz' g) (fun i => ws' (4 * g + i)) := by
    intro g x hg e h
    rw [hth g hg e, hsz g hg e]
    rcases h with h | ⟨ht, b, s, hb, hs, ex, ez, es, hd⟩
    · exact Or.inl h
    · refine Or.inr ⟨ht, b, s, hb, hs, ex, ez, es, fun i hi => ?_⟩
      obtain ⟨d, h1, h2, h3⟩ := hd i hi
      exact ⟨d, h1, h2, h3.trans (hws g i hg (by omega) e).symm⟩
  refine ⟨hN, hm, hc, fun g hg => ?_, fun g hg => ?_, fun g hg => ?_, fun g hg => ?_, ⟨c1, c2, ?_, fun i hi => ?_⟩, hL⟩
  · by_cases e : g = f
    · subst e; exact nd
    · rw [hno g hg e]
      exact tr g _ (by omega) e (nt_Nd_fr (hA g hg) ((sm g hg).1 e))
  · exact tr (6 + g) _ (by omega) (by omega) (nt_Nd_fr (hB g hg) (sm g hg).2.1)
  · exact nt_Gd_fr (hP g hg) (sm g hg).2.2
  · by_cases e : g = f
    · subst e; exact ⟨hc', (hD g hg).2⟩
    · rw [hno g hg e]; exact hD g hg
  · rw [← c2, hmk m (by omega), c2]; exact c3
  · rw [hmk i (by omega), hnf i hi]; exact c4 i hi
/-- a new node block b for file f -/
theorem nt_XI_node (X : nt_XI N m c G F wd nf ns nw mk cn pn pc no la th sz ws) (hf : f < 6) (fr : nt_Fr N m G (nI c) ns nw pn no la b)
    (hns : ∀ a, a ≠ b → ns' a = ns a) (hnw : ∀ j, j < 4 * b ∨ 4 * b + 4 ≤ j → nw' j = nw j)
    (hnf : ∀ a, a ≠ b → nf' a = nf a) (hmk : ∀ a, a ≠ b → mk' a = mk a)
    (hno : ∀ g, g < 6 → g ≠ f → no' g = no g) (hb : no' f = nI b)
    (nd : nt_Nd wd ns' nw' (nI b) (th' f) (sz' f) (fun i => ws' (4 * f + i)))
    (hth : ∀ g, g < 12 → g ≠ f → th' g = th g) (hsz : ∀ g, g < 12 → g ≠ f → sz' g = sz g) (hws : ∀ g i, g < 12 → i < 4 → g ≠ f → ws' (4 * g + i) = ws (4 * g + i)) :
    nt_XI N m c G F wd nf' ns' nw' mk' cn pn pc no' la th' sz' ws' := by
  obtain ⟨f1, f2, f3, f4⟩ := fr
  have c2 : G m = c := X.2.2.2.2.2.2.2.1.2.1
  refine nt_XI_fr X hf (fun g hg => ⟨fun _ => nt_Sm_b f1 (f2 g hg).1.1 hns hnw, nt_Sm_b f1 (f2 g hg).2.1.1 hns hnw, nt_Sm_b f1 (f2 g hg).2.2.1 hns hnw⟩) (fun i hi => hnf _ (f4 i hi)) (fun i hi => hmk _ ?_) hno (hb ▸ fun e => f3 e.symm) (hb.symm ▸ nd) hth hsz hws
  by_cases e : i = m
  · subst e; rw [c2]; exact fun e => f3 (congrArg nI e)
  · exact f4 i (by omega)
/-- a word of the node at b (file f's, and no other's) goes to block d -/
theorem nt_XI_word {d : Nat} (X : nt_XI N m c G F wd nf ns nw mk cn pn pc no la th sz ws) (hf : f < 6) (fr : nt_Fr N m G (nI c) ns nw pn no la d)
    (hb : b < 128) (eb : no f = nI b) (ot : ∀ g, g < 6 → (g ≠ f → no g ≠ nI b) ∧ la g ≠ nI b ∧ pn (N % 2 * 6 + g) ≠ nI b)
    (hns : ∀ a, a ≠ b → ns' a = ns a) (hnw : ∀ j, j < 4 * b ∨ 4 * b + 4 ≤ j → nw' j = nw j) (hwd : ∀ a, a ≠ d → wd' a = wd a) (hmk : ∀ a, a ≠ d → mk' a = mk a)
    (nd : nt_Nd wd' ns' nw' (nI b) (th' f) (sz' f) (fun i => ws' (4 * f + i)))
    (hth : ∀ g, g < 12 → g ≠ f → th' g = th g) (hsz : ∀ g, g < 12 → g ≠ f → sz' g = sz g) (hws : ∀ g i, g < 12 → i < 4 → g ≠ f → ws' (4 * g + i) = ws (4 * g + i)) :
    nt_XI N m c G F wd' nf ns' nw' mk' cn pn pc no la th' sz' ws' := by
  obtain ⟨f1, f2, f3, f4⟩ := fr
  have c2 : G m = c := X.2.2.2.2.2.2.2.1.2.1
  have hD := X.2.2.2.2.2.2.1 f hf
  refine nt_XI_fr X hf (fun g hg => ⟨fun e => nt_Sm_w hb ((ot g hg).1 e) (f2 g hg).1 hns hnw hwd, nt_Sm_w hb (ot g hg).2.1 (f2 g hg).2.1 hns hnw hwd, nt_Sm_w hb (ot g hg).2.2 (f2 g hg).2.2 hns hnw hwd⟩) (fun i hi => rfl) (fun i hi => hmk _ ?_) (fun _ _ _ => rfl) hD.1 (eb.symm ▸ nd) hth hsz hws
  by_cases e : i = m
  · subst e; rw [c2]; exact fun e => f3 (congrArg nI e)
  · exact f4 i (by omega)
end NTe
end
section
section NTf
variable {ch cd nu sg : Int32} {wd nf ns nw mk cn pb pe pn pc no la yo ne : Nat → Int32} {th sz ws yy : Nat → Int32}
theorem nt_wn25 {post : SX → Prop} {f b o q : Nat} {x3 : Int32} {nw0 : Nat → Int32} (hf : f < 6) (hb : b < 128)
    (ho : (x3 = -1 ∧ q = 0) ∨ (x3 = nI o ∧ o < 128 ∧ o ≠ b ∧ ns o = nI q ∧ q ≤ 4))
    (hp : ∀ nw', (∀ j, j < 4 * b ∨ 4 * b + 4 ≤ j → nw' j = nw0 j) → (∀ i, i < q → nw' (4 * b + i) = nw0 (4 * o + i)) → post (ch, cd, nu, sg, wd, nf, ns, nw', mk, cn, pb, pe, pn, pc, upd no f (nI b), la, yo, ne)) :
    ∀ (n k : Nat) (nw : Nat → Int32), 4 - k < n → k ≤ 4 → (∀ j, j < 4 * b ∨ 4 * b + 4 ≤ j → nw j = nw0 j) → (∀ i, i < k → i < q → nw (4 * b + i) = nw0 (4 * o + i)) →
    wX_writeNode_25 post (nI f) x3 (-1) (-1) (nI b) ch cd nu sg n (nI k) wd nf ns nw mk cn pb pe pn pc no la yo ne := by
  intro n
  induction n with
  | zero => intro k nw h; omega
  | succ n ih =>
    intro k nw h1 h2 h3 h4
    rw [wX_writeNode_25]
    dsimp only
    have hq : q ≤ 4 := by
      rcases ho with ⟨_, h⟩ | ⟨_, _, _, _, h⟩ <;> omega
    refine pk_le 4 k (fun h => ⟨vp_in_nI hf (by omega), ?_⟩) (fun h => ?_)
    · rw [nI_clamp (by omega)]
      exact nm_e (hp nw h3 (fun i hi => h4 i (by omega) hi))
    · have H : ∀ z, (k < q → z = nw0 (4 * o + k)) → wX_writeNode_62 post (wX_writeNode_25 post (nI f) x3 (-1) (-1) (nI b) ch cd nu sg n) (nI f) x3 (-1) (-1) (nI b) (nI k) z ch cd nu sg wd nf ns nw mk cn pb pe pn pc no la yo ne := by
        intro z hz
        unfold wX_writeNode_62
        rw [nt_m4, nI_clamp (n := 4 * b + k) (by omega)]
        refine br_f (nt_ne1 (by omega)) ⟨vp_in_nI (by omega) (by omega), nm_e (nm_r (nI_1 k) ?_)⟩
        refine ih (k + 1) _ (by omega) (by omega) (fun j hj => ?_) (fun i hi1 hi2 => ?_)
        · rw [pk_un (by omega)]; exact h3 j hj
        · by_cases e : i = k
          · subst e; rw [pk_us]; exact hz hi2
          · rw [pk_un (by omega)]; exact h4 i (by omega) hi2
      rcases ho with ⟨rfl, hq0⟩ | ⟨rfl, ho1, ho2, ho3, _⟩
      · exact br_t rfl (H (-1) (fun h => by omega))
      · refine br_f (nt_ne1 (by omega)) ⟨vp_in_nI ho1 (by omega), ?_⟩
        rw [nI_clamp (n := o) (by omega), ho3]
        refine pk_lt k q (fun e => ?_) (fun e => H (-1) (fun h => by omega))
        rw [nt_m4, nI_clamp (n := 4 * o + k) (by omega)]
        refine ⟨vp_in_nI (by omega) (by omega), H _ (fun _ => h3 _ (by omega))⟩
theorem nt_writeNode {post : SX → Prop} {N m s f o q : Nat} {G : Nat → Nat} {x3 z : Int32} (so : nt_SO N m G ch ns nw cn pn pc no la) (hs : s < 16) (hf : f < 6)
    (ho : (x3 = -1 ∧ q = 0) ∨ (x3 = nI o ∧ o < 128 ∧ no f = nI o ∧ ns o = nI q ∧ q ≤ 4))
    (hp : ∀ b s' ne' nw', s' < 16 → nt_Fr N m G ch ns nw pn no la b → (∀ j, j < 4 * b ∨ 4 * b + 4 ≤ j → nw' j = nw j) → (∀ i, i < q → nw' (4 * b + i) = nw (4 * o + i)) →
      post (ch, nI m, nI N, nI s', wd, upd nf b (nI f), upd ns b z, nw', upd mk b (-1), cn, pb, pe, pn, pc, upd no f (nI b), la, yo, ne')) :
    wpX_writeNode post (ch, nI m, nI N, nI s, wd, nf, ns, nw, mk, cn, pb, pe, pn, pc, no, la, yo, ne) (nI f) z x3 (-1) (-1) := by
  unfold wpX_writeNode
  dsimp only
  refine nt_fresh so hs (fun b s' ne' hs' fr => ?_)
  dsimp only
  have hb := fr.1
  rw [nI_clamp (n := b) (by omega)]
  refine ⟨vp_in_nI hb (by omega), nm_e ⟨vp_in_nI hb (by omega), nm_e ⟨5, ?_⟩⟩⟩
  refine nt_wn25 (o := o) (q := q) (nw0 := nw) hf hb ?_ (fun nw' k1 k2 => hp b s' ne' nw' hs' fr k1 k2) 5 0 nw (by omega) (by omega) (fun _ _ => rfl) (fun i hi => by omega)
  rcases ho with h | ⟨e, h1, h2, h3, h4⟩
  · exact Or.inl h
  · have e' : o ≠ b := fun e' => (fr.2.1 f hf).1.1 (e' ▸ h2)
    exact Or.inr ⟨e, h1, e', by rw [pk_un e']; exact h3, h4⟩
/-! arguments -/
theorem nt_bad_t {post : Int32 → Prop} {v : Int32} (h : v < 0 ∨ nI 6 ≤ v) (hp : post 1) : wpX_bad post (ch, cd, nu, sg, wd, nf, ns, nw, mk, cn, pb, pe, pn, pc, no, la, yo, ne) v := by
  unfold wpX_bad
  dsimp only
  refine br_c (fun _ => hp) (fun h0 => br_f (fun h6 => ?_) hp)
  rcases h with h | h
  · exact h0 h
  · exact absurd h6 (Int32.not_lt.mpr h)
theorem nt_bad_f {post : Int32 → Prop} {f : Nat} (hf : f < 6) (hp : post 0) : wpX_bad post (ch, cd, nu, sg, wd, nf, ns, nw, mk, cn, pb, pe, pn, pc, no, la, yo, ne) (nI f) := by
  unfold wpX_bad
  dsimp only
  exact br_f (nI_pos (by omega)) (pk_lt f 6 (fun _ => hp) (fun h => by omega))
theorem nt_isF_f {post : Int32 → Prop} {v : Int32} (h : v < 0 ∨ nI 6 ≤ v) (hp : post 0) : wpY_isFile post (th, sz, ws, yy) v := by
  unfold wpY_isFile
  dsimp only
  refine br_c (fun _ => hp) (fun h0 => br_t ?_ hp)
  rcases h with h | h
  · exact absurd h h0
  · obtain ⟨j, hj, rfl⟩ := nI_of h0
    rw [nI_leI (by omega) hj] at h
    exact nI_lt (a := 5) (by omega) hj
theorem nt_isF_t {post : Int32 → Prop} {f : Nat} (hf : f < 6) (hp : post 1) : wpY_isFile post (th, sz, ws, yy) (nI f) := by
  unfold wpY_isFile
  dsimp only
  exact br_f (nI_pos (by omega)) (pk_lt 5 f (fun h => by omega) (fun _ => hp))
theorem nt_test_b {post : Int32 → Prop} {v : Int32} (h : v < 0 ∨ nI 6 ≤ v) (hp : post (-1)) : wpY_test post (th, sz, ws, yy) v := by
  unfold wpY_test
  dsimp only
  exact nt_isF_f h (br_t rfl hp)
theorem nt_test_n {post : Int32 → Prop} {f : Nat} (hf : f < 6) (h : th f = 0) (hp : post (-3)) : wpY_test post (th, sz, ws, yy) (nI f) := by
  unfold wpY_test
  dsimp only
  refine nt_isF_t hf (br_f (by decide) ⟨vp_in_nI (by omega) (by omega), ?_⟩)
  rw [nI_clamp (by omega)]
  exact br_t h hp
theorem nt_test_y {post : Int32 → Prop} {f : Nat} (hf : f < 6) (h : th f = 1) (hp : post 0) : wpY_test post (th, sz, ws, yy) (nI f) := by
  unfold wpY_test
  dsimp only
  refine nt_isF_t hf (br_f (by decide) ⟨vp_in_nI (by omega) (by omega), ?_⟩)
  rw [nI_clamp (by omega), h]
  exact br_f (by decide) hp
/-! the relation -/
def nt_PK (N : Nat) (pb pe : Nat → Int32) : Prop :=
  1 ≤ N ∧ pb 0 = pe 0 ∧ pb 1 = pe 1 ∧ pe (N % 2) = nI N ∧ pe ((N + 1) % 2) = nI (N - 1)
def nt_R (k : Nat) (ch cd nu sg : Int32) (wd nf ns nw mk cn pb pe pn pc no la yo th sz ws yy : Nat → Int32) : Prop :=
  ∃ (N m s c : Nat) (G F : Nat → Nat), N ≤ k + 1 ∧ s < 16 ∧ ch = nI c ∧ cd = nI m ∧ nu = nI N ∧ sg = nI s ∧
    nt_XI N m c G F wd nf ns nw mk cn pn pc no la th sz ws ∧ nt_PK N pb pe ∧ ∀ f, f < 6 → yo f = yy f
/-- the relation at the head of a turn whose first cell is k: (u : SX) is (ch, cd, nu, sg, wd, nf, ns, nw, mk, cn, pb, pe, pn, pc, no, la, yo, ne), (v : SY) is (th, sz, ws, yy) -/
def i_Rel (k : Nat) (u : SX) (v : SY) : Prop := match u, v with
  | (ch, cd, nu, sg, wd, nf, ns, nw, mk, cn, pb, pe, pn, pc, no, la, yo, ne), (th, sz, ws, yy) => nt_R k ch cd nu sg wd nf ns nw mk cn pb pe pn pc no la yo th sz ws yy
theorem nt_mk {k N m s c : Nat} {G F : Nat → Nat} (hN : N ≤ k + 1) (hs : s < 16) (X : nt_XI N m c G F wd nf ns nw mk cn pn pc no la th sz ws) (K : nt_PK N pb pe) (Y : ∀ f, f < 6 → yo f = yy f) :
    i_Rel k (nI c, nI m, nI N, nI s, wd, nf, ns, nw, mk, cn, pb, pe, pn, pc, no, la, yo, ne) (th, sz, ws, yy) :=
  ⟨N, m, s, c, G, F, hN, hs, rfl, rfl, rfl, rfl, X, K, Y⟩
theorem nt_el {P : SX → SY → Prop} {k : Nat} {u : SX} {v : SY} (I : i_Rel k u v)
    (h : ∀ (N m s c : Nat) (G F : Nat → Nat) (wd nf ns nw mk cn pb pe pn pc no la yo ne th sz ws yy : Nat → Int32), N ≤ k + 1 → s < 16 →
      nt_XI N m c G F wd nf ns nw mk cn pn pc no la th sz ws → nt_PK N pb pe → (∀ f, f < 6 → yo f = yy f) → P (nI c, nI m, nI N, nI s, wd, nf, ns, nw, mk, cn, pb, pe, pn, pc, no, la, yo, ne) (th, sz, ws, yy)) : P u v := by
  obtain ⟨ch, cd, nu, sg, wd, nf, ns, nw, mk, cn, pb, pe, pn, pc, no, la, yo, ne⟩ := u
  obtain ⟨th, sz, ws, yy⟩ := v
  obtain ⟨N, m, s, c, G, F, hN, hs, rfl, rfl, rfl, rfl, X, K, Y⟩ := I
  exact h N m s c G F wd nf ns nw mk cn pb pe pn pc no la yo ne th sz ws yy hN hs X K Y
theorem i_up {k : Nat} {u : SX} {v : SY} (h : i_Rel k u v) : i_Rel (k + 4) u v := by
  refine nt_el (P := fun u v => i_Rel (k + 4) u v) h ?_
  intro N m s c G F wd nf ns nw mk cn pb pe pn pc no la yo ne th sz ws yy hN hs X K Y
  exact nt_mk (by omega) hs X K Y
theorem nt_Nd_cg {x t z t' z' : Int32} {w w' : Nat → Int32} (h : nt_Nd wd ns nw x t z w) (e1 : t' = t) (e2 : z' = z) (e3 : ∀ i, i < 4 → w' i = w i) : nt_Nd wd ns nw x t' z' w' := by
  subst e1 e2
  rcases h with h | ⟨ht, b, s, hb, hs, ex, ez, es, hd⟩
  · exact Or.inl h
  · refine Or.inr ⟨ht, b, s, hb, hs, ex, ez, es, fun i hi => ?_⟩
    obtain ⟨d, h1, h2, h3⟩ := hd i hi
    exact ⟨d, h1, h2, h3.trans (e3 i (by omega)).symm⟩
theorem nt_XI_cg {N m c : Nat} {G F : Nat → Nat} {th' sz' ws' : Nat → Int32} (X : nt_XI N m c G F wd nf ns nw mk cn pn pc no la th sz ws)
    (h1 : ∀ g, g < 12 → th' g = th g) (h2 : ∀ g, g < 12 → sz' g = sz g) (h3 : ∀ g i, g < 12 → i < 4 → ws' (4 * g + i) = ws (4 * g + i)) : nt_XI N m c G F wd nf ns nw mk cn pn pc no la th' sz' ws' := by
  obtain ⟨hN, hm, hc, hA, hB, hP, hD, hC, hL⟩ := X
  exact ⟨hN, hm, hc, fun f hf => nt_Nd_cg (hA f hf) (h1 _ (by omega)) (h2 _ (by omega)) (fun i hi => h3 f i (by omega) hi),
    fun f hf => nt_Nd_cg (hB f hf) (h1 _ (by omega)) (h2 _ (by omega)) (fun i hi => h3 (6 + f) i (by omega) hi), hP, hD, hC, hL⟩
end NTf
end
section
section NTg
variable {th sz ws yy : Nat → Int32}
theorem nt_ix (v : Int32) : (v < 0 ∨ nI 6 ≤ v) ∨ ∃ f : Nat, f < 6 ∧ v = nI f := by
  rcases pk_ix v (n := 6) (by omega) with h | h | h
  · exact Or.inl (Or.inl h)
  · exact Or.inl (Or.inr h)
  · exact Or.inr h
/-! the reference's side -/
theorem nt_Ycr_b {post : Int32 → SY → Prop} {v : Int32} (h : v < 0 ∨ nI 6 ≤ v) (hp : post (-1) (th, sz, ws, yy)) : wpY_create post (th, sz, ws, yy) v := by
  unfold wpY_create
  dsimp only
  exact nt_isF_f h (br_t rfl hp)
theorem nt_Ycr_y {post : Int32 → SY → Prop} {f : Nat} (hf : f < 6) (h : th f = 1) (hp : post (-3) (th, sz, ws, yy)) : wpY_create post (th, sz, ws, yy) (nI f) := by
  unfold wpY_create
  dsimp only
  refine nt_isF_t hf (br_f (by decide) ⟨vp_in_nI (by omega) (by omega), ?_⟩)
  rw [nI_clamp (by omega), h]
  exact br_f (by decide) hp
theorem nt_Ycr_n {post : Int32 → SY → Prop} {f : Nat} (hf : f < 6) (h : th f = 0) (hp : post 0 (upd th f 1, upd sz f 0, ws, upd yy f 1)) : wpY_create post (th, sz, ws, yy) (nI f) := by
  unfold wpY_create
  dsimp only
  have i12 : vp_in (nI f) 12 := vp_in_nI (by omega) (by omega)
  refine nt_isF_t hf (br_f (by decide) ⟨i12, ?_⟩)
  rw [nI_clamp (by omega), nt_b1]
  exact br_t h ⟨i12, nm_e ⟨i12, nm_e ⟨vp_in_nI hf (by omega), nm_e hp⟩⟩⟩
theorem nt_Yrm_b {post : Int32 → SY → Prop} {v : Int32} (h : v < 0 ∨ nI 6 ≤ v) (hp : post (-1) (th, sz, ws, yy)) : wpY_remove post (th, sz, ws, yy) v := by
  unfold wpY_remove
  dsimp only
  exact nt_test_b h (br_f (by decide) hp)
theorem nt_Yrm_n {post : Int32 → SY → Prop} {f : Nat} (hf : f < 6) (h : th f = 0) (hp : post (-3) (th, sz, ws, yy)) : wpY_remove post (th, sz, ws, yy) (nI f) := by
  unfold wpY_remove
  dsimp only
  exact nt_test_n hf h (br_f (by decide) hp)
theorem nt_Yrm_y {post : Int32 → SY → Prop} {f : Nat} (hf : f < 6) (h : th f = 1) (hp : post (sz f) (upd th f 0, sz, ws, upd yy f 0)) : wpY_remove post (th, sz, ws, yy) (nI f) := by
  unfold wpY_remove
  dsimp only
  have i12 : vp_in (nI f) 12 := vp_in_nI (by omega) (by omega)
  refine nt_test_y hf h (br_t (by decide) ⟨i12, ?_⟩)
  rw [nI_clamp (by omega), nt_b0]
  exact nm_e ⟨vp_in_nI hf (by omega), nm_e ⟨i12, hp⟩⟩
theorem nt_Yex_b {post : Int32 → Prop} {v : Int32} (h : v < 0 ∨ nI 6 ≤ v) (hp : post 0) : wpY_exists post (th, sz, ws, yy) v := by
  unfold wpY_exists
  dsimp only
  exact nt_isF_f h (br_t rfl hp)
theorem nt_Yex_n {post : Int32 → Prop} {f : Nat} (hf : f < 6) (h : th f = 0) (hp : post 0) : wpY_exists post (th, sz, ws, yy) (nI f) := by
  unfold wpY_exists
  dsimp only
  refine nt_isF_t hf (br_f (by decide) ⟨vp_in_nI (by omega) (by omega), ?_⟩)
  rw [nI_clamp (by omega)]
  exact br_t h hp
theorem nt_Yex_y {post : Int32 → Prop} {f : Nat} (hf : f < 6) (h : th f = 1) (hp : post 1) : wpY_exists post (th, sz, ws, yy) (nI f) := by
  unfold wpY_exists
  dsimp only
  refine nt_isF_t hf (br_f (by decide) ⟨vp_in_nI (by omega) (by omega), ?_⟩)
  rw [nI_clamp (by omega), h]
  exact br_f (by decide) hp
theorem nt_Ysz_b {post : Int32 → Prop} {v : Int32} (h : v < 0 ∨ nI 6 ≤ v) (hp : post (-1)) : wpY_size post (th, sz, ws, yy) v := by
  unfold wpY_size
  dsimp only
  exact nt_test_b h (br_f (by decide) hp)
theorem nt_Ysz_n {post : Int32 → Prop} {f : Nat} (hf : f < 6) (h : th f = 0) (hp : post (-3)) : wpY_size post (th, sz, ws, yy) (nI f) := by
  unfold wpY_size
  dsimp only
  exact nt_test_n hf h (br_f (by decide) hp)
theorem nt_Ysz_y {post : Int32 → Prop} {f : Nat} (hf : f < 6) (h : th f = 1) (hp : post (sz f)) : wpY_size post (th, sz, ws, yy) (nI f) := by
  unfold wpY_size
  dsimp only
  refine nt_test_y hf h (br_t (by decide) ⟨vp_in_nI (by omega) (by omega), ?_⟩)
  rw [nI_clamp (by omega)]
  exact hp
theorem nt_Yrd_b {post : Int32 → Prop} {v v2 : Int32} (h : v < 0 ∨ nI 6 ≤ v) (hp : post 0) : wpY_read post (th, sz, ws, yy) v v2 := by
  unfold wpY_read
  dsimp only
  exact nt_Yex_b h (br_t rfl hp)
theorem nt_Yrd_n {post : Int32 → Prop} {v2 : Int32} {f : Nat} (hf : f < 6) (h : th f = 0) (hp : post 0) : wpY_read post (th, sz, ws, yy) (nI f) v2 := by
  unfold wpY_read
  dsimp only
  exact nt_Yex_n hf h (br_t rfl hp)
theorem nt_Yrd_m {post : Int32 → Prop} {v2 : Int32} {f : Nat} (hf : f < 6) (h : th f = 1) (h2 : v2 < 0) (hp : post 0) : wpY_read post (th, sz, ws, yy) (nI f) v2 := by
  unfold wpY_read
  dsimp only
  exact nt_Yex_y hf h (br_f (by decide) (br_t h2 hp))
theorem nt_Yrd_y {post : Int32 → Prop} {f i q : Nat} (hf : f < 6) (h : th f = 1) (hi : i < 2 ^ 31) (hq : q ≤ 4) (hz : sz f = nI q) (hp1 : i < q → post (ws (4 * f + i))) (hp2 : q ≤ i → post 0) : wpY_read post (th, sz, ws, yy) (nI f) (nI i) := by
  unfold wpY_read
  dsimp only
  refine nt_Yex_y hf h (br_f (by decide) (br_f (nI_pos hi) ⟨vp_in_nI (by omega) (by omega), ?_⟩))
  rw [nI_clamp (n := f) (by omega), hz]
  refine pk_le q i (fun e => hp2 e) (fun e => ?_)
  rw [nt_4m, nI_clamp (by omega)]
  exact ⟨vp_in_nI (by omega) (by omega), hp1 e⟩
/-! the calls -/
theorem i_vc_create {k : Nat} {u : SX} {v : SY} (I : i_Rel k u v) (hk : k + 4 ≤ 2048) (v1 : Int32) : wpX_create (fun r u' => wpY_create (fun r' v' => r' = r ∧ i_Rel (k + 4) u' v') v v1) u v1 := by
  refine nt_el (P := fun u v => wpX_create (fun r u' => wpY_create (fun r' v' => r' = r ∧ i_Rel (k + 4) u' v') v v1) u v1) I ?_
  intro N m s c G F wd nf ns nw mk cn pb pe pn pc no la yo ne th sz ws yy hN hs X K Y
  unfold wpX_create
  dsimp only
  rcases nt_ix v1 with h | ⟨f, hf, rfl⟩
  · exact nt_bad_t h (br_f (by decide) (nt_Ycr_b h ⟨rfl, nt_mk (by omega) hs X K Y⟩))
  · refine nt_bad_f hf (br_t rfl ⟨vp_in_nI hf (by omega), ?_⟩)
    rw [nI_clamp (n := f) (by omega)]
    rcases X.2.2.2.1 f hf with ⟨e1, e2⟩ | ⟨e2, b, q, hb, hq, e1, ez, es, hd⟩
    · refine br_t e1 (nt_writeNode (o := 0) (q := 0) (nt_XI_SO X) hs hf (Or.inl ⟨rfl, rfl⟩) (fun b s' ne' nw' hs' fr k1 k2 => ⟨vp_in_nI hf (by omega), nm_e ?_⟩))
      rw [nt_b1]
      refine nt_Ycr_n hf e2 ⟨rfl, nt_mk (G := G) (F := F) (by omega) hs' ?_ K (fun g hg => ?_)⟩
      · refine nt_XI_node X hf fr (fun a e => pk_un e) k1 (fun a e => pk_un e) (fun a e => pk_un e) (fun a _ e => pk_un e) pk_us ?_ (fun g _ e => pk_un e) (fun g _ e => pk_un e) (fun g i _ _ _ => rfl)
        exact Or.inr ⟨pk_us, b, 0, fr.1, by omega, rfl, pk_us, pk_us, fun i hi => by omega⟩
      · by_cases e : g = f
        · subst e; rw [pk_us, pk_us]
        · rw [pk_un e, pk_un e]; exact Y g hg
    · rw [e1]
      exact br_f (nt_ne1 (by omega)) (nt_Ycr_y hf e2 ⟨rfl, nt_mk (by omega) hs X K Y⟩)
theorem i_vc_remove {k : Nat} {u : SX} {v : SY} (I : i_Rel k u v) (hk : k + 4 ≤ 2048) (v1 : Int32) : wpX_remove (fun r u' => wpY_remove (fun r' v' => r' = r ∧ i_Rel (k + 4) u' v') v v1) u v1 := by
  refine nt_el (P := fun u v => wpX_remove (fun r u' => wpY_remove (fun r' v' => r' = r ∧ i_Rel (k + 4) u' v') v v1) u v1) I ?_
  intro N m s c G F wd nf ns nw mk cn pb pe pn pc no la yo ne th sz ws yy hN hs X K Y
  unfold wpX_remove
  dsimp only
  rcases nt_ix v1 with h | ⟨f, hf, rfl⟩
  · exact nt_bad_t h (br_f (by decide) (nt_Yrm_b h ⟨rfl, nt_mk (by omega) hs X K Y⟩))
  · have i6 : vp_in (nI f) 6 := vp_in_nI hf (by omega)
    refine nt_bad_f hf (br_t rfl ⟨i6, ?_⟩)
    rw [nI_clamp (n := f) (by omega)]
    rcases X.2.2.2.1 f hf with ⟨e1, e2⟩ | ⟨e2, b, q, hb, hq, e1, ez, es, hd⟩
    · exact br_t e1 (nt_Yrm_n hf e2 ⟨rfl, nt_mk (by omega) hs X K Y⟩)
    · rw [e1, nI_clamp (n := b) (by omega), nt_b0]
      refine br_f (nt_ne1 (by omega)) ⟨i6, vp_in_nI hb (by omega), nm_e ⟨i6, nm_e ⟨i6, nm_e ?_⟩⟩⟩
      refine nt_Yrm_y hf e2 ⟨ez.trans es.symm, nt_mk (G := G) (F := F) (by omega) hs ?_ K (fun g hg => ?_)⟩
      · refine nt_XI_fr X hf (fun g hg => ⟨fun _ => nt_Sm_rf, nt_Sm_rf, nt_Sm_rf⟩) (fun _ _ => rfl) (fun _ _ => rfl) (fun g _ e => pk_un e) ?_ ?_ (fun g _ e => pk_un e) (fun g _ _ => rfl) (fun g i _ _ _ => rfl)
        · rw [pk_us]; exact fun e => nt_ne1 (by have := X.2.2.1; omega) e.symm
        · rw [pk_us, pk_us]; exact Or.inl ⟨rfl, rfl⟩
      · by_cases e : g = f
        · subst e; rw [pk_us, pk_us]
        · rw [pk_un e, pk_un e]; exact Y g hg
theorem i_vc_exists {k : Nat} {u : SX} {v : SY} (I : i_Rel k u v) (hk : k + 4 ≤ 2048) (v1 : Int32) : wpX_exists (fun r => wpY_exists (fun r' => r' = r ∧ i_Rel (k + 4) u v) v v1) u v1 := by
  refine nt_el (P := fun u v => wpX_exists (fun r => wpY_exists (fun r' => r' = r ∧ i_Rel (k + 4) u v) v v1) u v1) I ?_
  intro N m s c G F wd nf ns nw mk cn pb pe pn pc no la yo ne th sz ws yy hN hs X K Y
  unfold wpX_exists
  dsimp only
  have R := nt_mk (k := k + 4) (ne := ne) (by omega) hs X K Y
  rcases nt_ix v1 with h | ⟨f, hf, rfl⟩
  · exact nt_bad_t h (br_f (by decide) (nt_Yex_b h ⟨rfl, R⟩))
  · refine nt_bad_f hf (br_t rfl ⟨vp_in_nI hf (by omega), ?_⟩)
    rw [nI_clamp (n := f) (by omega)]
    rcases X.2.2.2.1 f hf with ⟨e1, e2⟩ | ⟨e2, b, q, hb, hq, e1, ez, es, hd⟩
    · exact br_t e1 (nt_Yex_n hf e2 ⟨rfl, R⟩)
    · rw [e1]
      exact br_f (nt_ne1 (by omega)) (nt_Yex_y hf e2 ⟨rfl, R⟩)
theorem i_vc_size {k : Nat} {u : SX} {v : SY} (I : i_Rel k u v) (hk : k + 4 ≤ 2048) (v1 : Int32) : wpX_size (fun r => wpY_size (fun r' => r' = r ∧ i_Rel (k + 4) u v) v v1) u v1 := by
  refine nt_el (P := fun u v => wpX_size (fun r => wpY_size (fun r' => r' = r ∧ i_Rel (k + 4) u v) v v1) u v1) I ?_
  intro N m s c G F wd nf ns nw mk cn pb pe pn pc no la yo ne th sz ws yy hN hs X K Y
  unfold wpX_size
  dsimp only
  have R := nt_mk (k := k + 4) (ne := ne) (by omega) hs X K Y
  rcases nt_ix v1 with h | ⟨f, hf, rfl⟩
  · exact nt_bad_t h (br_f (by decide) (nt_Ysz_b h ⟨rfl, R⟩))
  · have i6 : vp_in (nI f) 6 := vp_in_nI hf (by omega)
    refine nt_bad_f hf (br_t rfl ⟨i6, ?_⟩)
    rw [nI_clamp (n := f) (by omega)]
    rcases X.2.2.2.1 f hf with ⟨e1, e2⟩ | ⟨e2, b, q, hb, hq, e1, ez, es, hd⟩
    · exact br_t e1 (nt_Ysz_n hf e2 ⟨rfl, R⟩)
    · rw [e1, nI_clamp (n := b) (by omega)]
      exact br_f (nt_ne1 (by omega)) ⟨i6, vp_in_nI hb (by omega), nt_Ysz_y hf e2 ⟨ez.trans es.symm, R⟩⟩
theorem i_vc_read {k : Nat} {u : SX} {v : SY} (I : i_Rel k u v) (hk : k + 4 ≤ 2048) (v1 : Int32) (v2 : Int32) : wpX_read (fun r => wpY_read (fun r' => r' = r ∧ i_Rel (k + 4) u v) v v1 v2) u v1 v2 := by
  refine nt_el (P := fun u v => wpX_read (fun r => wpY_read (fun r' => r' = r ∧ i_Rel (k + 4) u v) v v1 v2) u v1 v2) I ?_
  intro N m s c G F wd nf ns nw mk cn pb pe pn pc no la yo ne th sz ws yy hN hs X K Y
  unfold wpX_read
  dsimp only
  have R := nt_mk (k := k + 4) (ne := ne) (by omega) hs X K Y
  rcases nt_ix v1 with h | ⟨f, hf, rfl⟩
  · exact nt_bad_t h (br_f (by decide) (nt_Yrd_b h ⟨rfl, R⟩))
  · have i6 : vp_in (nI f) 6 := vp_in_nI hf (by omega)
    refine nt_bad_f hf (br_t rfl ⟨i6, ?_⟩)
    rw [nI_clamp (n := f) (by omega)]
    rcases X.2.2.2.1 f hf with ⟨e1, e2⟩ | ⟨e2, b, q, hb, hq, e1, ez, es, hd⟩
    · exact br_t e1 (nt_Yrd_n hf e2 ⟨rfl, R⟩)
    · rw [e1, nI_clamp (n := b) (by omega), es]
      refine br_f (nt_ne1 (by omega)) (br_c (fun h2 => nt_Yrd_m hf e2 h2 ⟨rfl, R⟩) (fun h2 => ?_))
      obtain ⟨i, hi, rfl⟩ := nI_of h2
      refine ⟨i6, vp_in_nI hb (by omega), pk_lt i q (fun e => ?_) (fun e => nt_Yrd_y hf e2 hi hq ez (fun h => by omega) (fun _ => ⟨rfl, R⟩))⟩
      obtain ⟨d, d1, d2, d3⟩ := hd i e
      rw [nt_m4, nI_clamp (n := 4 * b + i) (by omega), d2, nI_clamp (n := d) (by omega), d3]
      exact ⟨i6, vp_in_nI (by omega) (by omega), vp_in_nI d1 (by omega), nt_Yrd_y hf e2 hi hq ez (fun _ => ⟨rfl, R⟩) (fun h => by omega)⟩
end NTg
end
section
section NTh
variable {ch cd nu sg : Int32} {wd nf ns nw mk cn pb pe pn pc no la yo ne : Nat → Int32} {th sz ws yy : Nat → Int32}
theorem nt_Nd_w {b s s' i d : Nat} {v t : Int32} {w w' ns' : Nat → Int32} (nd : nt_Nd wd ns nw (nI b) t (nI s) w) (hb : b < 128) (hs : s ≤ 4) (hd : d < 128) (av : nt_Av ns nw (nI b) d) (hs' : s' ≤ 4)
    (h1 : ∀ j, j < s' → j ≠ i → j < s) (e1 : ns' b = nI s') (h2 : ∀ j, j < s' → j ≠ i → w' j = w j) (h3 : i < s' → w' i = v) :
    nt_Nd (upd wd d v) ns' (upd nw (4 * b + i) (nI d)) (nI b) 1 (nI s') w' := by
  rcases nd with ⟨e, _⟩ | ⟨_, b', s0, hb', hs0, eb, ez, es, hd'⟩
  · exact absurd e (nt_ne1 (by omega))
  · have : b = b' := nt_im eb (by omega) (by omega)
    subst this
    have : s = s0 := nt_im ez (by omega) (by omega)
    subst this
    refine Or.inr ⟨rfl, b, s', hb, hs', rfl, rfl, e1, fun j hj => ?_⟩
    by_cases e : j = i
    · subst e
      exact ⟨d, hd, pk_us, by rw [pk_us, h3 hj]⟩
    · obtain ⟨a, a1, a2, a3⟩ := hd' j (h1 j hj e)
      refine ⟨a, a1, by rw [pk_un (by omega)]; exact a2, ?_⟩
      have : a ≠ d := fun e' => av.2 b s j hb hs rfl es (h1 j hj e) (e' ▸ a2)
      rw [pk_un this, h2 j hj e]; exact a3
/-! truncate -/
theorem nt_Ytr_b {post : Int32 → SY → Prop} {v v2 : Int32} (h : v < 0 ∨ nI 6 ≤ v) (hp : post (-1) (th, sz, ws, yy)) : wpY_truncate post (th, sz, ws, yy) v v2 := by
  unfold wpY_truncate
  dsimp only
  exact nt_test_b h (br_f (by decide) hp)
theorem nt_Ytr_n {post : Int32 → SY → Prop} {v2 : Int32} {f : Nat} (hf : f < 6) (h : th f = 0) (hp : post (-3) (th, sz, ws, yy)) : wpY_truncate post (th, sz, ws, yy) (nI f) v2 := by
  unfold wpY_truncate
  dsimp only
  exact nt_test_n hf h (br_f (by decide) hp)
theorem nt_Ytr_m {post : Int32 → SY → Prop} {v2 : Int32} {f : Nat} (hf : f < 6) (h : th f = 1) (h2 : v2 < 0) (hp : post (-1) (th, sz, ws, yy)) : wpY_truncate post (th, sz, ws, yy) (nI f) v2 := by
  unfold wpY_truncate
  dsimp only
  exact nt_test_y hf h (br_t (by decide) (br_t h2 hp))
theorem nt_Ytr_y {post : Int32 → SY → Prop} {f n q : Nat} (hf : f < 6) (h : th f = 1) (hn : n < 2 ^ 31) (hq : q ≤ 4) (hz : sz f = nI q) (hp1 : n ≤ q → post (nI q) (th, upd sz f (nI n), ws, yy)) (hp2 : q < n → post (-1) (th, sz, ws, yy)) : wpY_truncate post (th, sz, ws, yy) (nI f) (nI n) := by
  unfold wpY_truncate
  dsimp only
  have i12 : vp_in (nI f) 12 := vp_in_nI (by omega) (by omega)
  refine nt_test_y hf h (br_t (by decide) (br_f (nI_pos hn) ⟨i12, ?_⟩))
  rw [nI_clamp (n := f) (by omega), hz]
  exact pk_le n q (fun e => ⟨i12, nm_e ⟨i12, nm_e (hp1 e)⟩⟩) (fun e => hp2 e)
theorem i_vc_truncate {k : Nat} {u : SX} {v : SY} (I : i_Rel k u v) (hk : k + 4 ≤ 2048) (v1 : Int32) (v2 : Int32) : wpX_truncate (fun r u' => wpY_truncate (fun r' v' => r' = r ∧ i_Rel (k + 4) u' v') v v1 v2) u v1 v2 := by
  refine nt_el (P := fun u v => wpX_truncate (fun r u' => wpY_truncate (fun r' v' => r' = r ∧ i_Rel (k + 4) u' v') v v1 v2) u v1 v2) I ?_
  intro N m s c G F wd nf ns nw mk cn pb pe pn pc no la yo ne th sz ws yy hN hs X K Y
  unfold wpX_truncate
  dsimp only
  have R := nt_mk (k := k + 4) (ne := ne) (by omega) hs X K Y
  rcases nt_ix v1 with h | ⟨f, hf, rfl⟩
  · exact nt_bad_t h (br_f (by decide) (nt_Ytr_b h ⟨rfl, R⟩))
  · have i6 : vp_in (nI f) 6 := vp_in_nI hf (by omega)
    refine nt_bad_f hf (br_t rfl ⟨i6, ?_⟩)
    rw [nI_clamp (n := f) (by omega)]
    rcases X.2.2.2.1 f hf with ⟨e1, e2⟩ | ⟨e2, o, q, ho, hq, e1, ez, es, hd⟩
    · exact nm_r e1 (br_t rfl (nt_Ytr_n hf e2 ⟨rfl, R⟩))
    · refine nm_r e1 (br_f (nt_ne1 (by omega)) ⟨vp_in_nI ho (by omega), ?_⟩)
      rw [nI_clamp (n := o) (by omega)]
      refine nm_r es (br_c (fun h2 => nt_Ytr_m hf e2 h2 ⟨rfl, R⟩) (fun h2 => ?_))
      obtain ⟨n, hn, rfl⟩ := nI_of h2
      refine pk_le n q (fun e => ?_) (fun e => nt_Ytr_y hf e2 hn hq ez (fun h => by omega) (fun _ => ⟨rfl, R⟩))
      refine nt_writeNode (o := o) (q := q) (nt_XI_SO X) hs hf (Or.inr ⟨rfl, ho, e1, es, hq⟩) (fun b s' ne' nw' hs' fr k1 k2 => ?_)
      refine nt_Ytr_y hf e2 hn hq ez (fun _ => ⟨rfl, nt_mk (G := G) (F := F) (by omega) hs' ?_ K Y⟩) (fun h => by omega)
      refine nt_XI_node X hf fr (fun a e => pk_un e) k1 (fun a e => pk_un e) (fun a e => pk_un e) (fun a _ e => pk_un e) pk_us ?_ (fun g _ e => rfl) (fun g _ e => pk_un e) (fun g i _ _ _ => rfl)
      refine Or.inr ⟨e2, b, n, fr.1, by omega, rfl, pk_us, pk_us, fun i hi => ?_⟩
      obtain ⟨d, d1, d2, d3⟩ := hd i (by omega)
      exact ⟨d, d1, (k2 i (by omega)).trans d2, d3⟩
/-! write -/
theorem nt_write73 {post : Int32 → SX → Prop} {N m s c f o q i z : Nat} {G F : Nat → Nat} {v : Int32} (X : nt_XI N m c G F wd nf ns nw mk cn pn pc no la th sz ws) (hs : s < 16) (hf : f < 6)
    (ho : o < 128) (hq : q ≤ 4) (e2 : th f = 1) (e1 : no f = nI o) (ez : sz f = nI q) (es : ns o = nI q) (hd : ∀ i, i < q → ∃ d, d < 128 ∧ nw (4 * o + i) = nI d ∧ wd d = ws (4 * f + i))
    (hi : i < 4) (hz : z ≤ 4) (hiz : i < z) (hzq : ∀ j, j < z → j ≠ i → j < q)
    (hp : ∀ s' wd' nf' ns' nw' mk' no' ne', s' < 16 → nt_XI N m c G F wd' nf' ns' nw' mk' cn pn pc no' la th (upd sz f (nI z)) (upd ws (4 * f + i) v) →
      post (nI z) (nI c, nI m, nI N, nI s', wd', nf', ns', nw', mk', cn, pb, pe, pn, pc, no', la, yo, ne')) :
    wX_write_73 post (nI f) (nI i) v (nI o) (nI z) (nI c) (nI m) (nI N) (nI s) wd nf ns nw mk cn pb pe pn pc no la yo ne := by
  unfold wX_write_73
  refine nt_writeNode (o := o) (q := q) (nt_XI_SO X) hs hf (Or.inr ⟨rfl, ho, e1, es, hq⟩) (fun b s' ne' nw' hs' fr k1 k2 => ?_)
  dsimp only
  have hb := fr.1
  refine ⟨vp_in_nI hf (by omega), ?_⟩
  rw [nI_clamp (n := f) (by omega), pk_us]
  refine nm_e ?_
  rw [nI_clamp (n := b) (by omega), nt_m4, nI_clamp (n := 4 * b + i) (by omega)]
  refine ⟨vp_in_nI hb (by omega), nm_e ⟨vp_in_nI (by omega) (by omega), nm_e ?_⟩⟩
  have X1 : nt_XI N m c G F wd (upd nf b (nI f)) (upd (upd ns b (nI z)) b (nI z)) (upd nw' (4 * b + i) (nI b)) (upd mk b (-1)) cn pn pc (upd no f (nI b)) la th (upd sz f (nI z)) (upd ws (4 * f + i) (wd b)) := by
    refine nt_XI_node X hf fr (fun a e => by rw [pk_un e, pk_un e]) (fun j hj => by rw [pk_un (by omega)]; exact k1 j hj) (fun a e => pk_un e) (fun a e => pk_un e) (fun a _ e => pk_un e) pk_us ?_ (fun g _ e => rfl) (fun g _ e => pk_un e) (fun g j _ _ _ => pk_un (by omega))
    refine Or.inr ⟨e2, b, z, hb, hz, rfl, pk_us, pk_us, fun j hj => ?_⟩
    by_cases e : j = i
    · subst e
      exact ⟨b, hb, pk_us, by dsimp only; rw [pk_us]⟩
    · obtain ⟨d, d1, d2, d3⟩ := hd j (hzq j hj e)
      exact ⟨d, d1, by rw [pk_un (by omega)]; exact (k2 j (hzq j hj e)).trans d2, by dsimp only; rw [pk_un (by omega)]; exact d3⟩
  refine nt_fresh (nt_XI_SO X1) hs' (fun d s2 ne2 hs2 fr2 => ?_)
  dsimp only
  have hd2 := fr2.1
  rw [nI_clamp (n := d) (by omega)]
  refine ⟨vp_in_nI hd2 (by omega), nm_e ⟨vp_in_nI (by omega) (by omega), nm_e (hp _ _ _ _ _ _ _ _ hs2 ?_)⟩⟩
  have av := (fr2.2.1 f hf).1
  rw [pk_us] at av
  refine nt_XI_word X1 hf fr2 hb pk_us (fun g hg => ⟨fun e => ?_, (fr.2.1 g hg).2.1.1, (fr.2.1 g hg).2.2.1⟩) (fun _ _ => rfl) (fun j hj => pk_un (by omega)) (fun a e => pk_un e) (fun a e => pk_un e) ?_ (fun g _ _ => rfl) (fun g _ _ => rfl) (fun g j _ _ _ => by rw [pk_un (by omega), pk_un (by omega)])
  · rw [pk_un e]; exact (fr.2.1 g hg).1.1
  · have A := X1.2.2.2.1 f hf
    rw [pk_us, pk_us] at A
    rw [e2, pk_us]
    refine nt_Nd_w A hb hz hd2 av hz (fun j hj _ => hj) pk_us (fun j hj e => ?_) (fun _ => ?_)
    · rw [pk_un (by omega), pk_un (by omega)]
    · rw [pk_us]
theorem nt_Ywr_b {post : Int32 → SY → Prop} {v v2 v3 : Int32} (h : v < 0 ∨ nI 6 ≤ v) (hp : post (-1) (th, sz, ws, yy)) : wpY_write post (th, sz, ws, yy) v v2 v3 := by
  unfold wpY_write
  dsimp only
  exact nt_test_b h (br_f (by decide) hp)
theorem nt_Ywr_n {post : Int32 → SY → Prop} {v2 v3 : Int32} {f : Nat} (hf : f < 6) (h : th f = 0) (hp : post (-3) (th, sz, ws, yy)) : wpY_write post (th, sz, ws, yy) (nI f) v2 v3 := by
  unfold wpY_write
  dsimp only
  exact nt_test_n hf h (br_f (by decide) hp)
theorem nt_Ywr_m {post : Int32 → SY → Prop} {v2 v3 : Int32} {f : Nat} (hf : f < 6) (h : th f = 1) (h2 : v2 < 0) (hp : post (-1) (th, sz, ws, yy)) : wpY_write post (th, sz, ws, yy) (nI f) v2 v3 := by
  unfold wpY_write
  dsimp only
  exact nt_test_y hf h (br_t (by decide) (br_t h2 hp))
theorem nt_Ywr_y {post : Int32 → SY → Prop} {v3 : Int32} {f i q : Nat} (hf : f < 6) (h : th f = 1) (hi : i < 2 ^ 31) (hq : q ≤ 4) (hz : sz f = nI q)
    (hp0 : (q < i ∨ i = 4) → post (-1) (th, sz, ws, yy))
    (hp1 : i < 4 → i = q → post (nI (i + 1)) (th, upd sz f (nI (i + 1)), upd ws (4 * f + i) v3, yy)) (hp2 : i < 4 → i < q → post (nI q) (th, upd sz f (nI q), upd ws (4 * f + i) v3, yy)) : wpY_write post (th, sz, ws, yy) (nI f) (nI i) v3 := by
  unfold wpY_write
  dsimp only
  have i12 : vp_in (nI f) 12 := vp_in_nI (by omega) (by omega)
  refine nt_test_y hf h (br_t (by decide) (br_f (nI_pos hi) ⟨i12, ?_⟩))
  rw [nI_clamp (n := f) (by omega), hz]
  refine pk_lt q i (fun e => hp0 (Or.inl e)) (fun e => pk_eq i 4 (fun e4 => hp0 (Or.inr e4)) (fun e4 => ?_))
  rw [nt_4m, nI_clamp (by omega)]
  refine ⟨vp_in_nI (by omega) (by omega), nm_e ⟨i12, pk_eq i q (fun e' => ⟨i12, nm_r (congrArg (upd sz f) (nI_1 i)) ⟨i12, ?_⟩⟩) (fun e' => ⟨i12, i12, nm_e ⟨i12, ?_⟩⟩)⟩⟩
  · rw [pk_us]; exact hp1 (by omega) e'
  · rw [pk_us]; exact hp2 (by omega) (by omega)
theorem i_vc_write {k : Nat} {u : SX} {v : SY} (I : i_Rel k u v) (hk : k + 4 ≤ 2048) (v1 : Int32) (v2 : Int32) (v3 : Int32) : wpX_write (fun r u' => wpY_write (fun r' v' => r' = r ∧ i_Rel (k + 4) u' v') v v1 v2 v3) u v1 v2 v3 := by
  refine nt_el (P := fun u v => wpX_write (fun r u' => wpY_write (fun r' v' => r' = r ∧ i_Rel (k + 4) u' v') v v1 v2 v3) u v1 v2 v3) I ?_
  intro N m s c G F wd nf ns nw mk cn pb pe pn pc no la yo ne th sz ws yy hN hs X K Y
  unfold wpX_write
  dsimp only
  have R := nt_mk (k := k + 4) (ne := ne) (by omega) hs X K Y
  rcases nt_ix v1 with h | ⟨f, hf, rfl⟩
  · exact nt_bad_t h (br_f (by decide) (nt_Ywr_b h ⟨rfl, R⟩))
  · have i6 : vp_in (nI f) 6 := vp_in_nI hf (by omega)
    refine nt_bad_f hf (br_t rfl ⟨i6, ?_⟩)
    rw [nI_clamp (n := f) (by omega)]
    rcases X.2.2.2.1 f hf with ⟨e1, e2⟩ | ⟨e2, o, q, ho, hq, e1, ez, es, hd⟩
    · exact nm_r e1 (br_t rfl (nt_Ywr_n hf e2 ⟨rfl, R⟩))
    · have io : vp_in (nI o) 128 := vp_in_nI ho (by omega)
      refine nm_r e1 (br_f (nt_ne1 (by omega)) (br_c (fun h2 => nt_Ywr_m hf e2 h2 ⟨rfl, R⟩) (fun h2 => ⟨io, ?_⟩)))
      obtain ⟨i, hi, rfl⟩ := nI_of h2
      rw [nI_clamp (n := o) (by omega), es]
      refine pk_lt q i (fun e => nt_Ywr_y hf e2 hi hq ez (fun _ => ⟨rfl, R⟩) (fun _ h => by omega) (fun _ h => by omega)) (fun e => ?_)
      refine pk_eq i 4 (fun e4 => nt_Ywr_y hf e2 hi hq ez (fun _ => ⟨rfl, R⟩) (fun _ h => by omega) (fun _ h => by omega)) (fun e4 => ⟨io, ?_⟩)
      refine pk_eq i q (fun e5 => ?_) (fun e5 => ⟨io, ?_⟩)
      · rw [nI_1]
        refine nt_write73 X hs hf ho hq e2 e1 ez es hd (by omega) (by omega) (by omega) (fun j hj _ => by omega) (fun s' wd' nf' ns' nw' mk' no' ne' hs' X' => ?_)
        exact nt_Ywr_y hf e2 hi hq ez (fun h => by omega) (fun _ _ => ⟨rfl, nt_mk (by omega) hs' X' K Y⟩) (fun _ h => by omega)
      · refine nt_write73 X hs hf ho hq e2 e1 ez es hd (by omega) (by omega) (by omega) (fun j hj _ => by omega) (fun s' wd' nf' ns' nw' mk' no' ne' hs' X' => ?_)
        exact nt_Ywr_y hf e2 hi hq ez (fun h => by omega) (fun _ h => by omega) (fun _ _ => ⟨rfl, nt_mk (by omega) hs' X' K Y⟩)
end NTh
end
section
section NTi
variable {ch cd nu sg : Int32} {wd nf ns nw mk cn pb pe pn pc no la yo ne : Nat → Int32} {th sz ws yy : Nat → Int32}
theorem nt_cc14 {post : SY → Prop} {a b : Nat} {ws0 : Nat → Int32} (ha : a < 12) (hb : b < 12)
    (hp : ∀ ws', (∀ j, j < 4 → ws' (4 * b + j) = ws0 (4 * a + j)) → (∀ g j, g < 12 → j < 4 → g ≠ b → ws' (4 * g + j) = ws0 (4 * g + j)) → post (th, sz, ws', yy)) :
    ∀ (n k : Nat) (ws : Nat → Int32), 4 - k < n → k ≤ 4 → (∀ j, j < k → ws (4 * b + j) = ws0 (4 * a + j)) → (∀ j, k ≤ j → j < 4 → ws (4 * b + j) = ws0 (4 * b + j)) → (∀ g j, g < 12 → j < 4 → g ≠ b → ws (4 * g + j) = ws0 (4 * g + j)) →
    wY_copyContent_14 post (nI a) (nI b) n (nI k) th sz ws yy := by
  intro n
  induction n with
  | zero => intro k ws h; omega
  | succ n ih =>
    intro k ws h1 h2 h3 h4 h5
    rw [wY_copyContent_14]
    dsimp only
    refine pk_le 4 k (fun h => hp ws (fun j hj => h3 j (by omega)) h5) (fun h => ?_)
    rw [nt_4m, nt_4m, nI_clamp (n := 4 * a + k) (by omega), nI_clamp (n := 4 * b + k) (by omega)]
    refine ⟨vp_in_nI (by omega) (by omega), vp_in_nI (by omega) (by omega), nm_e (nm_r (nI_1 k) ?_)⟩
    refine ih (k + 1) _ (by omega) (by omega) (fun j hj => ?_) (fun j hj1 hj2 => ?_) (fun g j hg hj e => ?_)
    · by_cases e : j = k
      · subst e
        rw [pk_us]
        by_cases e' : a = b
        · subst e'; exact h4 j (by omega) (by omega)
        · exact h5 a j ha (by omega) e'
      · rw [pk_un (by omega)]; exact h3 j (by omega)
    · rw [pk_un (by omega)]; exact h4 j (by omega) hj2
    · rw [pk_un (by omega)]; exact h5 g j hg hj e
theorem nt_copyC {post : SY → Prop} {a b : Nat} (ha : a < 12) (hb : b < 12)
    (hp : ∀ ws', (∀ j, j < 4 → ws' (4 * b + j) = ws (4 * a + j)) → (∀ g j, g < 12 → j < 4 → g ≠ b → ws' (4 * g + j) = ws (4 * g + j)) → post (th, upd sz b (sz a), ws', yy)) :
    wpY_copyContent post (th, sz, ws, yy) (nI a) (nI b) := by
  unfold wpY_copyContent
  dsimp only
  rw [nI_clamp (n := a) (by omega), nI_clamp (n := b) (by omega)]
  refine ⟨vp_in_nI ha (by omega), vp_in_nI hb (by omega), nm_e ⟨5, ?_⟩⟩
  exact nt_cc14 (ws0 := ws) ha hb hp 5 0 ws (by omega) (by omega) (fun j hj => by omega) (fun _ _ _ => rfl) (fun _ _ _ _ _ => rfl)
theorem nt_Ycp_b1 {post : Int32 → SY → Prop} {v v2 : Int32} (h : v < 0 ∨ nI 6 ≤ v) (hp : post (-1) (th, sz, ws, yy)) : wpY_copy post (th, sz, ws, yy) v v2 := by
  unfold wpY_copy
  dsimp only
  exact nt_isF_f h (br_t rfl hp)
theorem nt_Ycp_b2 {post : Int32 → SY → Prop} {v2 : Int32} {f : Nat} (hf : f < 6) (h : v2 < 0 ∨ nI 6 ≤ v2) (hp : post (-1) (th, sz, ws, yy)) : wpY_copy post (th, sz, ws, yy) (nI f) v2 := by
  unfold wpY_copy
  dsimp only
  exact nt_isF_t hf (br_f (by decide) (nt_isF_f h (br_t rfl hp)))
theorem nt_Ycp_n1 {post : Int32 → SY → Prop} {f g : Nat} (hf : f < 6) (hg : g < 6) (h : th f = 0) (hp : post (-3) (th, sz, ws, yy)) : wpY_copy post (th, sz, ws, yy) (nI f) (nI g) := by
  unfold wpY_copy
  dsimp only
  refine nt_isF_t hf (br_f (by decide) (nt_isF_t hg (br_f (by decide) ⟨vp_in_nI (by omega) (by omega), ?_⟩)))
  rw [nI_clamp (n := f) (by omega)]
  exact br_t h hp
theorem nt_Ycp_n2 {post : Int32 → SY → Prop} {f g : Nat} (hf : f < 6) (hg : g < 6) (h : th f = 1) (h2 : th g = 0) (hp : post (-3) (th, sz, ws, yy)) : wpY_copy post (th, sz, ws, yy) (nI f) (nI g) := by
  unfold wpY_copy
  dsimp only
  refine nt_isF_t hf (br_f (by decide) (nt_isF_t hg (br_f (by decide) ⟨vp_in_nI (by omega) (by omega), ?_⟩)))
  rw [nI_clamp (n := f) (by omega), h]
  refine br_f (by decide) ⟨vp_in_nI (by omega) (by omega), ?_⟩
  rw [nI_clamp (n := g) (by omega)]
  exact br_t h2 hp
theorem nt_Ycp_y {post : Int32 → SY → Prop} {f g : Nat} (hf : f < 6) (hg : g < 6) (h : th f = 1) (h2 : th g = 1)
    (hp : ∀ ws', (∀ j, j < 4 → ws' (4 * f + j) = ws (4 * g + j)) → (∀ a j, a < 12 → j < 4 → a ≠ f → ws' (4 * a + j) = ws (4 * a + j)) → post (sz g) (th, upd sz f (sz g), ws', yy)) : wpY_copy post (th, sz, ws, yy) (nI f) (nI g) := by
  unfold wpY_copy
  dsimp only
  refine nt_isF_t hf (br_f (by decide) (nt_isF_t hg (br_f (by decide) ⟨vp_in_nI (by omega) (by omega), ?_⟩)))
  rw [nI_clamp (n := f) (by omega), h]
  refine br_f (by decide) ⟨vp_in_nI (by omega) (by omega), ?_⟩
  rw [nI_clamp (n := g) (by omega), h2]
  refine br_f (by decide) (nt_copyC (by omega) (by omega) (fun ws' k1 k2 => ⟨vp_in_nI (by omega) (by omega), ?_⟩))
  dsimp only
  rw [pk_us]
  exact hp ws' k1 k2
theorem nt_cp76 {post : Int32 → SX → Prop} {N m c f g o q b : Nat} {G F : Nat → Nat} (hf : f < 6) (hg : g < 6) (hfg : g ≠ f) (hq : q ≤ 4) (hb : b < 128) (eb : no f = nI b)
    (ot : ∀ g, g < 6 → (g ≠ f → no g ≠ nI b) ∧ la g ≠ nI b ∧ pn (N % 2 * 6 + g) ≠ nI b) (ho : o < 128) (eo : no g = nI o) (hz : sz g = nI q) (e1 : th f = 1) (hw : ∀ j, j < 4 → ws (4 * f + j) = ws (4 * g + j))
    (hp : ∀ s wd ns nw mk ne, s < 16 → nt_XI N m c G F wd nf ns nw mk cn pn pc no la th (upd sz f (nI q)) ws → post (nI q) (nI c, nI m, nI N, nI s, wd, nf, ns, nw, mk, cn, pb, pe, pn, pc, no, la, yo, ne)) :
    ∀ (n i s : Nat) (wd ns nw mk ne : Nat → Int32), q - i < n → i ≤ q → s < 16 → nt_XI N m c G F wd nf ns nw mk cn pn pc no la th (upd sz f (nI i)) ws →
    wX_copy_76 post (nI f) (nI o) (nI q) n (nI i) (nI c) (nI m) (nI N) (nI s) wd nf ns nw mk cn pb pe pn pc no la yo ne := by
  intro n
  induction n with
  | zero => intro i s wd ns nw mk ne h; omega
  | succ n ih =>
    intro i s wd ns nw mk ne h1 h2 hs X
    rw [wX_copy_76]
    dsimp only
    refine pk_le q i (fun h => ?_) (fun h => ?_)
    · have : i = q := by omega
      subst this
      exact hp s wd ns nw mk ne hs X
    · refine nt_fresh (nt_XI_SO X) hs (fun d s' ne' hs' fr => ?_)
      dsimp only
      have A := X.2.2.2.1 g hg
      rw [eo, pk_un hfg, hz] at A
      have A' := X.2.2.2.1 f hf
      rw [eb, pk_us] at A'
      rcases A with ⟨e, _⟩ | ⟨_, o', q', ho', hq', eo', eq', es, hd⟩
      · exact absurd e (nt_ne1 (by omega))
      · have : o = o' := nt_im eo' (by omega) (by omega)
        subst this
        have : q = q' := nt_im eq' (by omega) (by omega)
        subst this
        obtain ⟨e, d1, d2, d3⟩ := hd i h
        have hd1 := fr.1
        rw [nt_m4, nI_clamp (n := 4 * o + i) (by omega), d2, nI_clamp (n := e) (by omega), nI_clamp (n := d) (by omega), nI_clamp (n := f) (by omega), eb, nt_m4, nI_clamp (n := 4 * b + i) (by omega), nI_clamp (n := b) (by omega), nI_1]
        have i6 : vp_in (nI f) 6 := vp_in_nI hf (by omega)
        refine ⟨vp_in_nI (by omega) (by omega), vp_in_nI d1 (by omega), vp_in_nI hd1 (by omega), nm_e ⟨i6, vp_in_nI (by omega) (by omega), nm_e ⟨i6, vp_in_nI hb (by omega), nm_e (nm_e ?_)⟩⟩⟩
        refine ih (i + 1) s' _ _ _ _ ne' (by omega) (by omega) hs' ?_
        have av := (fr.2.1 f hf).1
        rw [eb] at av
        refine nt_XI_word X hf fr hb eb ot (fun a e => pk_un e) (fun j hj => pk_un (by omega)) (fun a e => pk_un e) (fun a e => pk_un e) ?_ (fun g _ _ => rfl) (fun g _ e => by rw [pk_un e, pk_un e]) (fun g j _ _ _ => rfl)
        rw [e1, pk_us]
        exact nt_Nd_w A' hb (by omega) hd1 av (by omega) (fun j hj e => by omega) pk_us (fun j hj e => rfl) (fun _ => (hw i (by omega)).trans d3.symm)
/-- file f's words are file g's -/
def nt_cpw (ws : Nat → Int32) (f g : Nat) : Nat → Int32 := fun j => if 4 * f ≤ j ∧ j < 4 * f + 4 then ws (4 * g + (j - 4 * f)) else ws j
theorem nt_cpw_i {f g j : Nat} (h : j < 4) : nt_cpw ws f g (4 * f + j) = ws (4 * g + j) := by
  unfold nt_cpw
  rw [if_pos ⟨by omega, by omega⟩, Nat.add_sub_cancel_left]
theorem nt_cpw_o {f g a j : Nat} (h : j < 4) (e : a ≠ f) : nt_cpw ws f g (4 * a + j) = ws (4 * a + j) := by
  unfold nt_cpw
  rw [if_neg (by omega)]
theorem i_vc_copy {k : Nat} {u : SX} {v : SY} (I : i_Rel k u v) (hk : k + 4 ≤ 2048) (v1 : Int32) (v2 : Int32) : wpX_copy (fun r u' => wpY_copy (fun r' v' => r' = r ∧ i_Rel (k + 4) u' v') v v1 v2) u v1 v2 := by
  refine nt_el (P := fun u v => wpX_copy (fun r u' => wpY_copy (fun r' v' => r' = r ∧ i_Rel (k + 4) u' v') v v1 v2) u v1 v2) I ?_
  intro N m s c G F wd nf ns nw mk cn pb pe pn pc no la yo ne th sz ws yy hN hs X K Y
  unfold wpX_copy
  dsimp only
  have R := nt_mk (k := k + 4) (ne := ne) (by omega) hs X K Y
  rcases nt_ix v1 with h | ⟨f, hf, rfl⟩
  · exact nt_bad_t h (br_f (by decide) (nt_Ycp_b1 h ⟨rfl, R⟩))
  refine nt_bad_f hf (br_t rfl ?_)
  rcases nt_ix v2 with h | ⟨g, hg, rfl⟩
  · exact nt_bad_t h (br_f (by decide) (nt_Ycp_b2 hf h ⟨rfl, R⟩))
  have i6 : vp_in (nI f) 6 := vp_in_nI hf (by omega)
  have j6 : vp_in (nI g) 6 := vp_in_nI hg (by omega)
  refine nt_bad_f hg (br_t rfl ⟨i6, ?_⟩)
  rw [nI_clamp (n := f) (by omega), nI_clamp (n := g) (by omega)]
  rcases X.2.2.2.1 f hf with ⟨e1, e2⟩ | ⟨e2, p, t, hp, ht, e1, ez, es, hd⟩
  · exact br_t e1 (nt_Ycp_n1 hf hg e2 ⟨rfl, R⟩)
  refine br_f (by rw [e1]; exact nt_ne1 (by omega)) ⟨j6, ?_⟩
  rcases X.2.2.2.1 g hg with ⟨a1, a2⟩ | ⟨a2, o, q, ho, hq, a1, az, as, ad⟩
  · exact br_t a1 (nt_Ycp_n2 hf hg e2 a2 ⟨rfl, R⟩)
  refine br_f (by rw [a1]; exact nt_ne1 (by omega)) ⟨j6, nm_r a1 ⟨vp_in_nI ho (by omega), ?_⟩⟩
  rw [nI_clamp (n := o) (by omega)]
  refine nm_r as (pk_eq f g (fun e => ?_) (fun e => ?_))
  · subst e
    refine nt_Ycp_y hf hf e2 e2 (fun ws' k1 k2 => ⟨az, nt_mk (by omega) hs (nt_XI_cg X (fun _ _ => rfl) (fun a _ => ?_) (fun a j ha hj => ?_)) K Y⟩)
    · by_cases e : a = f
      · subst e; exact pk_us
      · exact pk_un e
    · by_cases e : a = f
      · subst e; exact k1 j hj
      · exact k2 a j ha hj e
  · refine nt_writeNode (o := 0) (q := 0) (nt_XI_SO X) hs hf (Or.inl ⟨rfl, rfl⟩) (fun b s' ne' nw' hs' fr k1 k2 => ?_)
    dsimp only
    refine ⟨q + 1, ?_⟩
    have hb := fr.1
    refine nt_cp76 (G := G) (F := F) (g := g) (b := b) (th := th) (sz := sz) (ws := nt_cpw ws f g) hf hg (fun e' => e e'.symm) hq hb pk_us (fun a ha => ⟨fun e' => ?_, (fr.2.1 a ha).2.1.1, (fr.2.1 a ha).2.2.1⟩) ho (by rw [pk_un (fun e' => e e'.symm)]; exact a1) az e2 (fun j hj => ?_) (fun s2 wd2 ns2 nw2 mk2 ne2 hs2 X2 => ?_) (q + 1) 0 s' _ _ _ _ _ (by omega) (by omega) hs' ?_
    · rw [pk_un e']; exact (fr.2.1 a ha).1.1
    · rw [nt_cpw_i hj, nt_cpw_o hj (fun e' => e e'.symm)]
    · refine nt_Ycp_y hf hg e2 a2 (fun ws' k3 k4 => ⟨az, nt_mk (by omega) hs2 (nt_XI_cg X2 (fun _ _ => rfl) (fun a _ => by rw [az]) (fun a j ha hj => ?_)) K Y⟩)
      by_cases e' : a = f
      · subst e'; rw [nt_cpw_i hj]; exact k3 j hj
      · rw [nt_cpw_o hj e']; exact k4 a j ha hj e'
    · refine nt_XI_node X hf fr (fun a e => pk_un e) k1 (fun a e => pk_un e) (fun a e => pk_un e) (fun a _ e => pk_un e) pk_us ?_ (fun g _ e => rfl) (fun g _ e => pk_un e) (fun a i _ hi e' => nt_cpw_o hi e')
      exact Or.inr ⟨e2, b, 0, hb, by omega, rfl, pk_us, pk_us, fun i hi => by omega⟩
end NTi
end
section
section NTj
variable {ch cd nu sg : Int32} {wd nf ns nw mk cn pb pe pn pc no la yo ne : Nat → Int32} {th sz ws yy : Nat → Int32}
theorem nt_wp29 {post : SX → Prop} {N s : Nat} (hN : N < 2 ^ 31) (hs : s < 16) (hA : ∀ f, f < 6 → nt_Gd ns nw (no f) ∧ nt_Gd ns nw (la f))
    (hp : ∀ b s' ne' pn', s' < 16 → (∀ g, g < 6 → pn' (N % 2 * 6 + g) = la g) → nt_Fr N 0 (fun _ => 0) (-1) ns nw pn' no la b →
      post (nI b, nI 0, nI N, nI s', wd, nf, ns, nw, upd mk b (-1), cn, pb, upd pe (N % 2) (nI N), pn', upd pc (N % 2) (nI b), no, la, yo, ne')) :
    ∀ (n f : Nat) (pn : Nat → Int32), 6 - f < n → f ≤ 6 → (∀ g, g < f → pn (N % 2 * 6 + g) = la g) →
    wX_writePack_29 post (nI (N % 2)) ch cd (nI N) (nI s) n (nI f) wd nf ns nw mk cn pb pe pn pc no la yo ne := by
  intro n
  induction n with
  | zero => intro f pn h; omega
  | succ n ih =>
    intro f pn h1 h2 h3
    rw [wX_writePack_29]
    dsimp only
    have i2 : vp_in (nI (N % 2)) 2 := vp_in_nI (by omega) (by omega)
    refine pk_le 6 f (fun h => ?_) (fun h => ?_)
    · have h3' : ∀ g, g < 6 → pn (N % 2 * 6 + g) = la g := fun g hg => h3 g (by omega)
      have so : nt_SO N 0 (fun _ => 0) (-1) ns nw cn pn pc no la := ⟨hN, by omega, Or.inl rfl, fun g hg => ⟨(hA g hg).1, (hA g hg).2, by rw [h3' g hg]; exact (hA g hg).2⟩, fun h => by omega, fun i hi => by omega⟩
      refine nt_fresh (m := 0) so hs (fun b s' ne' hs' fr => ⟨i2, ?_⟩)
      rw [nI_clamp (n := N % 2) (by omega)]
      exact nm_e ⟨i2, nm_e (hp b s' ne' pn hs' h3' fr)⟩
    · rw [nt_m6, nI_clamp (n := f) (by omega), nI_clamp (n := N % 2 * 6 + f) (by omega)]
      refine ⟨vp_in_nI h (by omega), vp_in_nI (by omega) (by omega), nm_e (nm_r (nI_1 f) ?_)⟩
      refine ih (f + 1) _ (by omega) (by omega) (fun g hg => ?_)
      by_cases e : g = f
      · subst e; exact pk_us
      · rw [pk_un (by omega)]; exact h3 g (by omega)
theorem nt_writePack {post : SX → Prop} {N s : Nat} (hN : N + 1 < 2 ^ 31) (hs : s < 16) (hA : ∀ f, f < 6 → nt_Gd ns nw (no f) ∧ nt_Gd ns nw (la f))
    (hp : ∀ b s' ne' pn', s' < 16 → (∀ g, g < 6 → pn' ((N + 1) % 2 * 6 + g) = la g) → nt_Fr (N + 1) 0 (fun _ => 0) (-1) ns nw pn' no la b →
      post (nI b, nI 0, nI (N + 1), nI s', wd, nf, ns, nw, upd mk b (-1), cn, upd pb ((N + 1) % 2) (nI (N + 1)), upd pe ((N + 1) % 2) (nI (N + 1)), pn', upd pc ((N + 1) % 2) (nI b), no, la, yo, ne')) :
    wpX_writePack post (ch, cd, nI N, nI s, wd, nf, ns, nw, mk, cn, pb, pe, pn, pc, no, la, yo, ne) := by
  unfold wpX_writePack
  dsimp only
  refine nm_r (nI_1 N) (nm_r (nt_par hN) ⟨vp_in_nI (by omega) (by omega), ?_⟩)
  rw [nI_clamp (n := (N + 1) % 2) (by omega)]
  exact nm_e ⟨7, nt_wp29 hN hs hA hp 7 0 pn (by omega) (by omega) (fun g hg => by omega)⟩
theorem nt_XI_pack {N b : Nat} {pn' : Nat → Int32} (hN : N + 1 < 2 ^ 31)
    (hA : ∀ f, f < 6 → nt_Nd wd ns nw (no f) (th f) (sz f) (fun i => ws (4 * f + i)))
    (hB : ∀ f, f < 6 → nt_Nd wd ns nw (la f) (th (6 + f)) (sz (6 + f)) (fun i => ws (4 * (6 + f) + i)))
    (hpn : ∀ g, g < 6 → pn' ((N + 1) % 2 * 6 + g) = la g) (fr : nt_Fr (N + 1) 0 (fun _ => 0) (-1) ns nw pn' no la b) :
    nt_XI (N + 1) 0 b (fun _ => b) (fun _ => 0) wd nf ns nw (upd mk b (-1)) cn pn' (upd pc ((N + 1) % 2) (nI b)) no la th sz ws := by
  obtain ⟨f1, f2, f3, f4⟩ := fr
  refine ⟨hN, by omega, f1, hA, hB, fun g hg => ?_, fun g hg => ⟨(f2 g hg).1.1, (f2 g hg).2.1.1, (f2 g hg).2.2.1⟩, ⟨pk_us, rfl, ?_, fun i hi => by omega⟩, fun g hg => (hpn g hg).symm⟩
  · rw [hpn g hg]; exact nt_Nd_Gd (hB g hg)
  · rw [pk_us]; exact fun e => nt_ne1 hN e.symm
theorem nt_PK_next {N : Nat} (h1 : pb (N % 2) = pe (N % 2)) (h2 : pe (N % 2) = nI N) : nt_PK (N + 1) (upd pb ((N + 1) % 2) (nI (N + 1))) (upd pe ((N + 1) % 2) (nI (N + 1))) := by
  have e2 : (N + 1 + 1) % 2 = N % 2 := by omega
  have ne2 : N % 2 ≠ (N + 1) % 2 := by omega
  refine ⟨by omega, ?_, ?_, pk_us, ?_⟩
  · by_cases e : 0 = (N + 1) % 2
    · rw [← e, pk_us, pk_us]
    · have e' : 0 = N % 2 := by omega
      rw [pk_un e, pk_un e, e']; exact h1
  · by_cases e : 1 = (N + 1) % 2
    · rw [← e, pk_us, pk_us]
    · have e' : 1 = N % 2 := by omega
      rw [pk_un e, pk_un e, e']; exact h1
  · rw [e2, pk_un ne2]; exact h2
theorem nt_PK_pe {N : Nat} (K : nt_PK N pb pe) : pb (N % 2) = pe (N % 2) ∧ pe (N % 2) = nI N := by
  obtain ⟨_, k0, k1, k2, _⟩ := K
  refine ⟨?_, k2⟩
  have : N % 2 = 0 ∨ N % 2 = 1 := by omega
  rcases this with e | e
  · rw [e]; exact k0
  · rw [e]; exact k1
theorem nt_ck2 {post : SX → Prop} {N s : Nat} (hN : N + 1 < 2 ^ 31) (hs : s < 16) (hA : ∀ f, f < 6 → nt_Gd ns nw (no f))
    (hp : ∀ b s' ne' pn' la' yo', s' < 16 → (∀ g, g < 6 → la' g = no g) → (∀ g, g < 6 → yo' g = 0) → (∀ g, g < 6 → pn' ((N + 1) % 2 * 6 + g) = la' g) → nt_Fr (N + 1) 0 (fun _ => 0) (-1) ns nw pn' no la' b →
      post (nI b, nI 0, nI (N + 1), nI s', wd, nf, ns, nw, upd mk b (-1), cn, upd pb ((N + 1) % 2) (nI (N + 1)), upd pe ((N + 1) % 2) (nI (N + 1)), pn', upd pc ((N + 1) % 2) (nI b), no, la', yo', ne')) :
    ∀ (n f : Nat) (la yo : Nat → Int32), 6 - f < n → f ≤ 6 → (∀ g, g < f → la g = no g) → (∀ g, g < f → yo g = 0) →
    wX_checkpoint_2 post ch cd (nI N) (nI s) n (nI f) wd nf ns nw mk cn pb pe pn pc no la yo ne := by
  intro n
  induction n with
  | zero => intro f la yo h; omega
  | succ n ih =>
    intro f la yo h1 h2 h3 h4
    rw [wX_checkpoint_2]
    dsimp only
    refine pk_le 6 f (fun h => ?_) (fun h => ?_)
    · have h3' : ∀ g, g < 6 → la g = no g := fun g hg => h3 g (by omega)
      exact nt_writePack hN hs (fun g hg => ⟨hA g hg, by rw [h3' g hg]; exact hA g hg⟩) (fun b s' ne' pn' hs' k1 k2 => hp b s' ne' pn' la yo hs' h3' (fun g hg => h4 g (by omega)) k1 k2)
    · have i6 : vp_in (nI f) 6 := vp_in_nI h (by omega)
      rw [nI_clamp (n := f) (by omega), nt_b0]
      refine ⟨i6, i6, nm_e ⟨i6, nm_e (nm_r (nI_1 f) ?_)⟩⟩
      refine ih (f + 1) _ _ (by omega) (by omega) (fun g hg => ?_) (fun g hg => ?_)
      · by_cases e : g = f
        · subst e; exact pk_us
        · rw [pk_un e]; exact h3 g (by omega)
      · by_cases e : g = f
        · subst e; exact pk_us
        · rw [pk_un e]; exact h4 g (by omega)
theorem nt_checkpoint {post : SX → Prop} {N s : Nat} (hN : N + 1 < 2 ^ 31) (hs : s < 16) (hA : ∀ f, f < 6 → nt_Gd ns nw (no f))
    (hp : ∀ b s' ne' pn' la' yo', s' < 16 → (∀ g, g < 6 → la' g = no g) → (∀ g, g < 6 → yo' g = 0) → (∀ g, g < 6 → pn' ((N + 1) % 2 * 6 + g) = la' g) → nt_Fr (N + 1) 0 (fun _ => 0) (-1) ns nw pn' no la' b →
      post (nI b, nI 0, nI (N + 1), nI s', wd, nf, ns, nw, upd mk b (-1), cn, upd pb ((N + 1) % 2) (nI (N + 1)), upd pe ((N + 1) % 2) (nI (N + 1)), pn', upd pc ((N + 1) % 2) (nI b), no, la', yo', ne')) :
    wpX_checkpoint post (ch, cd, nI N, nI s, wd, nf, ns, nw, mk, cn, pb, pe, pn, pc, no, la, yo, ne) := by
  unfold wpX_checkpoint
  dsimp only
  exact ⟨7, nt_ck2 hN hs hA hp 7 0 la yo (by omega) (by omega) (fun g hg => by omega) (fun g hg => by omega)⟩
/-! the constructors -/
theorem nt_in144 {post : SX → Prop} {s : Nat} (hs : s < 16)
    (hp : ∀ b s' ne' pn' no' la' yo', s' < 16 → (∀ g, g < 6 → no' g = -1) → (∀ g, g < 6 → la' g = no' g) → (∀ g, g < 6 → yo' g = 0) → (∀ g, g < 6 → pn' ((0 + 1) % 2 * 6 + g) = la' g) → nt_Fr (0 + 1) 0 (fun _ => 0) (-1) ns nw pn' no' la' b →
      post (nI b, nI 0, nI (0 + 1), nI s', wd, nf, ns, nw, upd mk b (-1), cn, upd pb ((0 + 1) % 2) (nI (0 + 1)), upd pe ((0 + 1) % 2) (nI (0 + 1)), pn', upd pc ((0 + 1) % 2) (nI b), no', la', yo', ne')) :
    ∀ (n f : Nat) (no la : Nat → Int32), 6 - f < n → f ≤ 6 → (∀ g, g < f → no g = -1) →
    wX_init_144 post ch cd (nI 0) (nI s) n (nI f) wd nf ns nw mk cn pb pe pn pc no la yo ne := by
  intro n
  induction n with
  | zero => intro f no la h; omega
  | succ n ih =>
    intro f no la h1 h2 h3
    rw [wX_init_144]
    dsimp only
    refine pk_le 6 f (fun h => ?_) (fun h => ?_)
    · have h3' : ∀ g, g < 6 → no g = -1 := fun g hg => h3 g (by omega)
      exact nt_checkpoint (N := 0) (by omega) hs (fun g hg => Or.inl (h3' g hg)) (fun b s' ne' pn' la' yo' hs' k1 k2 k3 k4 => hp b s' ne' pn' no la' yo' hs' h3' k1 k2 k3 k4)
    · have i6 : vp_in (nI f) 6 := vp_in_nI h (by omega)
      rw [nI_clamp (n := f) (by omega)]
      refine ⟨i6, nm_e ⟨i6, nm_e (nm_r (nI_1 f) ?_)⟩⟩
      refine ih (f + 1) _ _ (by omega) (by omega) (fun g hg => ?_)
      by_cases e : g = f
      · subst e; exact pk_us
      · rw [pk_un e]; exact h3 g (by omega)
theorem nt_in122 {post : SX → Prop} {s : Nat} (hs : s < 16)
    (hp : ∀ b s' ne' mk' pn' no' la' yo', s' < 16 → (∀ g, g < 6 → no' g = -1) → (∀ g, g < 6 → la' g = no' g) → (∀ g, g < 6 → yo' g = 0) → (∀ g, g < 6 → pn' ((0 + 1) % 2 * 6 + g) = la' g) → nt_Fr (0 + 1) 0 (fun _ => 0) (-1) ns nw pn' no' la' b →
      post (nI b, nI 0, nI (0 + 1), nI s', wd, nf, ns, nw, upd mk' b (-1), cn, upd pb ((0 + 1) % 2) (nI (0 + 1)), upd pe ((0 + 1) % 2) (nI (0 + 1)), pn', upd pc ((0 + 1) % 2) (nI b), no', la', yo', ne')) :
    ∀ (n b : Nat) (mk : Nat → Int32), 128 - b < n → b ≤ 128 →
    wX_init_122 post ch cd (nI 0) (nI s) n (nI b) wd nf ns nw mk cn pb pe pn pc no la yo ne := by
  intro n
  induction n with
  | zero => intro b mk h; omega
  | succ n ih =>
    intro b mk h1 h2
    rw [wX_init_122]
    dsimp only
    refine pk_le 128 b (fun h => ?_) (fun h => ?_)
    · exact ⟨7, nt_in144 hs (fun b s' ne' pn' no' la' yo' => hp b s' ne' mk pn' no' la' yo') 7 0 no la (by omega) (by omega) (fun g hg => by omega)⟩
    · refine ⟨vp_in_nI h (by omega), nm_e (nm_r (nI_1 b) ?_)⟩
      exact ih (b + 1) _ (by omega) (by omega)
theorem i_vc0 : wpX_init (fun u => wpY_init (fun v => i_Rel 0 u v)) := by
  unfold wpX_init
  refine ⟨129, nt_in122 (s := 0) (by omega) (fun b s' ne' mk' pn' no' la' yo' hs' k1 k2 k3 k4 k5 => ?_) 129 0 _ (by omega) (by omega)⟩
  unfold wpY_init
  refine nt_mk (N := 0 + 1) (by omega) hs' (nt_XI_pack (by omega) (fun f hf => Or.inl ⟨k1 f hf, rfl⟩) (fun f hf => Or.inl ⟨(k2 f hf).trans (k1 f hf), rfl⟩) k4 k5) (nt_PK_next rfl rfl) (fun f hf => k3 f hf)
end NTj
end
section
section NTk
variable {ch cd nu sg : Int32} {wd nf ns nw mk cn pb pe pn pc no la yo ne : Nat → Int32} {th sz ws yy : Nat → Int32}
theorem nt_nb {t : Int32} (h : t = 0 ∨ t = 1) : vp_nar .boolean t = t := by
  rcases h with rfl | rfl
  · exact nt_b0
  · exact nt_b1
theorem nt_Nd_t {x t z : Int32} {w : Nat → Int32} (h : nt_Nd wd ns nw x t z w) : t = 0 ∨ t = 1 := by
  rcases h with ⟨_, h⟩ | ⟨h, _⟩
  · exact Or.inl h
  · exact Or.inr h
theorem nt_Nd_1 {x t z : Int32} {w : Nat → Int32} (h : nt_Nd wd ns nw x t z w) : x = -1 ↔ t = 0 := by
  rcases h with ⟨h1, h2⟩ | ⟨h1, b, s, hb, _, e, _⟩
  · exact ⟨fun _ => h2, fun _ => h1⟩
  · rw [h1, e]
    exact ⟨fun e => absurd e (nt_ne1 (by omega)), fun e => absurd e (by decide)⟩
/-! counting files -/
theorem nt_ct4 {post : Int32 → Prop} (hA : ∀ f, f < 6 → (no f = -1 ↔ th f = 0)) (hp : post (nI (nt_cnt th 6))) :
    ∀ (n f : Nat), 6 - f < n → f ≤ 6 → wX_count_4 post ch cd nu sg wd nf ns nw mk cn pb pe pn pc no la yo ne n (nI (nt_cnt th f)) (nI f) := by
  intro n
  induction n with
  | zero => intro f h; omega
  | succ n ih =>
    intro f h1 h2
    rw [wX_count_4]
    dsimp only
    refine pk_le 6 f (fun h => ?_) (fun h => ⟨vp_in_nI h (by omega), ?_⟩)
    · have : f = 6 := by omega
      subst this
      exact hp
    · rw [nI_clamp (n := f) (by omega)]
      have H := ih (f + 1) (by omega) (by omega)
      rw [nt_cnt_s] at H
      refine br_c (fun e => nm_r (nI_1 f) ?_) (fun e => nm_r (nI_1 _) (nm_r (nI_1 f) ?_))
      · rw [if_pos ((hA f h).mp e)] at H; exact H
      · rw [if_neg (fun e' => e ((hA f h).mpr e'))] at H; exact H
theorem nt_count {post : Int32 → Prop} (hA : ∀ f, f < 6 → (no f = -1 ↔ th f = 0)) (hp : post (nI (nt_cnt th 6))) : wpX_count post (ch, cd, nu, sg, wd, nf, ns, nw, mk, cn, pb, pe, pn, pc, no, la, yo, ne) := by
  unfold wpX_count
  dsimp only
  exact ⟨7, nt_ct4 hA hp 7 0 (by omega) (by omega)⟩
theorem nt_Yct4 {post : Int32 → SY → Prop} (hp : ∀ yy', (∀ g, g < 6 → yy' g = 0) → post (nI (nt_cnt th 6)) (th, sz, ws, yy')) :
    ∀ (n f : Nat) (yy : Nat → Int32), 6 - f < n → f ≤ 6 → (∀ g, g < f → yy g = 0) → wY_count_4 post n (nI (nt_cnt th f)) (nI f) th sz ws yy := by
  intro n
  induction n with
  | zero => intro f yy h; omega
  | succ n ih =>
    intro f yy h1 h2 h3
    rw [wY_count_4]
    dsimp only
    refine pk_le 6 f (fun h => ?_) (fun h => ⟨vp_in_nI (by omega) (by omega), ?_⟩)
    · have : f = 6 := by omega
      subst this
      exact hp yy h3
    · have H := ih (f + 1) (upd yy f 0) (by omega) (by omega) (fun g hg => by
        by_cases e : g = f
        · subst e; exact pk_us
        · rw [pk_un e]; exact h3 g (by omega))
      rw [nt_cnt_s] at H
      unfold wY_count_26
      rw [nI_clamp (n := f) (by omega), nt_b0]
      refine br_c (fun e => ⟨vp_in_nI h (by omega), nm_e (nm_r (nI_1 f) ?_)⟩) (fun e => ⟨vp_in_nI h (by omega), nm_e (nm_r (nI_1 f) ?_)⟩)
      · rw [if_pos e] at H; exact H
      · rw [if_neg e] at H; rw [nI_1]; exact H
theorem nt_Ycount {post : Int32 → SY → Prop} (hp : ∀ yy', (∀ g, g < 6 → yy' g = 0) → post (nI (nt_cnt th 6)) (th, sz, ws, yy')) : wpY_count post (th, sz, ws, yy) := by
  unfold wpY_count
  dsimp only
  exact ⟨7, nt_Yct4 hp 7 0 yy (by omega) (by omega) (fun g hg => by omega)⟩
theorem nt_cnt_cg {a b : Nat → Int32} : ∀ n, (∀ g, g < n → a g = b g) → nt_cnt a n = nt_cnt b n := by
  intro n
  induction n with
  | zero => intro _; rfl
  | succ n ih =>
    intro h
    rw [nt_cnt_s, nt_cnt_s, ih (fun g hg => h g (by omega)), h n (by omega)]
/-! file a here is file b there -/
def nt_Cpy (th sz ws th0 sz0 ws0 : Nat → Int32) (a b : Nat) : Prop := th a = th0 b ∧ sz a = sz0 b ∧ ∀ j, j < 4 → ws (4 * a + j) = ws0 (4 * b + j)
theorem nt_Cpy_o {th0 sz0 ws0 th' ws' : Nat → Int32} {a b c d : Nat} (h : nt_Cpy th sz ws th0 sz0 ws0 a c) (e : a ≠ b) (ha : a < 12) (hth : ∀ g, g ≠ b → th' g = th g)
    (hws : ∀ g j, g < 12 → j < 4 → g ≠ b → ws' (4 * g + j) = ws (4 * g + j)) : nt_Cpy th' (upd sz b (sz d)) ws' th0 sz0 ws0 a c := by
  obtain ⟨h1, h2, h3⟩ := h
  exact ⟨(hth a e).trans h1, (pk_un e).trans h2, fun j hj => (hws a j ha hj e).trans (h3 j hj)⟩
theorem nt_Cpy_i {th0 sz0 ws0 th' ws' : Nat → Int32} {b c d : Nat} (h : nt_Cpy th sz ws th0 sz0 ws0 d c) (hth : th' b = th d)
    (hws : ∀ j, j < 4 → ws' (4 * b + j) = ws (4 * d + j)) : nt_Cpy th' (upd sz b (sz d)) ws' th0 sz0 ws0 b c := by
  obtain ⟨h1, h2, h3⟩ := h
  exact ⟨hth.trans h1, pk_us.trans h2, fun j hj => (hws j hj).trans (h3 j hj)⟩
theorem nt_Cpy_rf {a : Nat} : nt_Cpy th sz ws th sz ws a a := ⟨rfl, rfl, fun _ _ => rfl⟩
theorem nt_Nd_cp {th0 sz0 ws0 : Nat → Int32} {x : Int32} {a b : Nat} (h : nt_Nd wd ns nw x (th0 b) (sz0 b) (fun i => ws0 (4 * b + i))) (e : nt_Cpy th sz ws th0 sz0 ws0 a b) :
    nt_Nd wd ns nw x (th a) (sz a) (fun i => ws (4 * a + i)) := nt_Nd_cg h e.1 e.2.1 e.2.2
theorem nt_Ysy2 {post : Int32 → SY → Prop} {th0 sz0 ws0 : Nat → Int32} (hb : ∀ g, g < 6 → th0 g = 0 ∨ th0 g = 1)
    (hp : ∀ th' sz' ws' yy', (∀ g, g < 6 → nt_Cpy th' sz' ws' th0 sz0 ws0 g g) → (∀ g, g < 6 → nt_Cpy th' sz' ws' th0 sz0 ws0 (6 + g) g) → (∀ g, g < 6 → yy' g = 0) → post (nI (nt_cnt th0 6)) (th', sz', ws', yy')) :
    ∀ (n f : Nat) (th sz ws : Nat → Int32), 6 - f < n → f ≤ 6 → (∀ g, g < 6 → nt_Cpy th sz ws th0 sz0 ws0 g g) → (∀ g, g < f → nt_Cpy th sz ws th0 sz0 ws0 (6 + g) g) →
    wY_sync_2 post n (nI f) th sz ws yy := by
  intro n
  induction n with
  | zero => intro f th sz ws h; omega
  | succ n ih =>
    intro f th sz ws h1 h2 h3 h4
    rw [wY_sync_2]
    dsimp only
    refine pk_le 6 f (fun h => ?_) (fun h => ⟨vp_in_nI (by omega) (by omega), ?_⟩)
    · refine nt_Ycount (fun yy' k => ?_)
      rw [nt_cnt_cg 6 (fun g hg => (h3 g hg).1)]
      exact hp th sz ws yy' h3 (fun g hg => h4 g (by omega)) k
    · have e0 : vp_nar .boolean (th f) = th f := by rw [(h3 f h).1]; exact nt_nb (hb f h)
      rw [nt_6a, nI_clamp (n := f) (by omega), nI_clamp (n := 6 + f) (by omega), e0]
      refine ⟨vp_in_nI (by omega) (by omega), nm_e (nt_copyC (by omega) (by omega) (fun ws' k1 k2 => nm_r (nI_1 f) ?_))⟩
      refine ih (f + 1) _ _ _ (by omega) (by omega) (fun g hg => ?_) (fun g hg => ?_)
      · exact nt_Cpy_o (h3 g hg) (by omega) (by omega) (fun g e => pk_un e) k2
      · by_cases e : g = f
        · subst e
          exact nt_Cpy_i (h3 g h) pk_us k1
        · exact nt_Cpy_o (h4 g (by omega)) (by omega) (by omega) (fun g e => pk_un e) k2
theorem nt_Ysync {post : Int32 → SY → Prop} (hb : ∀ g, g < 6 → th g = 0 ∨ th g = 1)
    (hp : ∀ th' sz' ws' yy', (∀ g, g < 6 → nt_Cpy th' sz' ws' th sz ws g g) → (∀ g, g < 6 → nt_Cpy th' sz' ws' th sz ws (6 + g) g) → (∀ g, g < 6 → yy' g = 0) → post (nI (nt_cnt th 6)) (th', sz', ws', yy')) :
    wpY_sync post (th, sz, ws, yy) := by
  unfold wpY_sync
  dsimp only
  exact ⟨7, nt_Ysy2 hb hp 7 0 th sz ws (by omega) (by omega) (fun _ _ => nt_Cpy_rf) (fun g hg => by omega)⟩
/-- the state behind a checkpoint -/
theorem nt_XI_ck {N m c b : Nat} {G F : Nat → Nat} {pn' la' th' sz' ws' : Nat → Int32} (hN : N + 1 < 2 ^ 31) (X : nt_XI N m c G F wd nf ns nw mk cn pn pc no la th sz ws)
    (k1 : ∀ g, g < 6 → la' g = no g) (hpn : ∀ g, g < 6 → pn' ((N + 1) % 2 * 6 + g) = la' g) (fr : nt_Fr (N + 1) 0 (fun _ => 0) (-1) ns nw pn' no la' b)
    (c1 : ∀ g, g < 6 → nt_Cpy th' sz' ws' th sz ws g g) (c2 : ∀ g, g < 6 → nt_Cpy th' sz' ws' th sz ws (6 + g) g) :
    nt_XI (N + 1) 0 b (fun _ => b) (fun _ => 0) wd nf ns nw (upd mk b (-1)) cn pn' (upd pc ((N + 1) % 2) (nI b)) no la' th' sz' ws' :=
  nt_XI_pack hN (fun f hf => nt_Nd_cp (X.2.2.2.1 f hf) (c1 f hf)) (fun f hf => by rw [k1 f hf]; exact nt_Nd_cp (X.2.2.2.1 f hf) (c2 f hf)) hpn fr
theorem i_vc_sync {k : Nat} {u : SX} {v : SY} (I : i_Rel k u v) (hk : k + 4 ≤ 2048) : wpX_sync (fun r u' => wpY_sync (fun r' v' => r' = r ∧ i_Rel (k + 4) u' v') v) u := by
  refine nt_el (P := fun u v => wpX_sync (fun r u' => wpY_sync (fun r' v' => r' = r ∧ i_Rel (k + 4) u' v') v) u) I ?_
  intro N m s c G F wd nf ns nw mk cn pb pe pn pc no la yo ne th sz ws yy hN hs X K Y
  unfold wpX_sync
  dsimp only
  have hA := X.2.2.2.1
  have hN1 : N + 1 < 2 ^ 31 := by omega
  refine nt_checkpoint hN1 hs (fun f hf => nt_Nd_Gd (hA f hf)) (fun b s' ne' pn' la' yo' hs' k1 k2 k3 k4 => ?_)
  dsimp only
  refine nt_count (th := th) (fun f hf => nt_Nd_1 (hA f hf)) ?_
  refine nt_Ysync (fun g hg => nt_Nd_t (hA g hg)) (fun th' sz' ws' yy' c1 c2 c3 => ⟨rfl, ?_⟩)
  exact nt_mk (by omega) hs' (nt_XI_ck hN1 X k1 k3 k4 c1 c2) (nt_PK_next (nt_PK_pe K).1 (nt_PK_pe K).2) (fun f hf => (k2 f hf).trans (c3 f hf).symm)
end NTk
end
section
section NTl
variable {ch cd nu sg : Int32} {wd nf ns nw mk cn pb pe pn pc no la yo ne : Nat → Int32} {th sz ws yy : Nat → Int32}
theorem nt_fs80 {post : Int32 → SX → Prop} {N m s f o c : Nat} {G : Nat → Nat} {nw0 : Nat → Int32} (hs : s < 16) (hf : f < 6) (ho : o < 128) (hc : c < 128) (hoc : o ≠ c)
    (hp : ∀ nw', (∀ j, j < 4 * c ∨ 4 * c + 4 ≤ j → nw' j = nw0 j) → (∀ i, i < 4 → nw' (4 * c + i) = nw0 (4 * o + i)) →
      nt_SO N m G ch ns nw' cn pn pc (upd no f (nI c)) (upd la f (nI c)) ∧
      ∀ b s' ne', s' < 16 → nt_Fr N m G ch ns nw' pn (upd no f (nI c)) (upd la f (nI c)) b →
        post 0 (nI b, nI (m + 1), nI N, nI s', wd, nf, ns, nw', upd (upd mk b (-1)) c (nI N), upd cn c (nI b), pb, pe, pn, pc, upd no f (nI c), upd la f (nI c), yo, ne')) :
    ∀ (n k : Nat) (nw : Nat → Int32), 4 - k < n → k ≤ 4 → (∀ j, j < 4 * c ∨ 4 * c + 4 ≤ j → nw j = nw0 j) → (∀ i, i < k → nw (4 * c + i) = nw0 (4 * o + i)) →
    wX_fsync_80 post (nI f) (nI o) (nI c) ch (nI m) (nI N) (nI s) n (nI k) wd nf ns nw mk cn pb pe pn pc no la yo ne := by
  intro n
  induction n with
  | zero => intro k nw h; omega
  | succ n ih =>
    intro k nw h1 h2 h3 h4
    rw [wX_fsync_80]
    dsimp only
    have i6 : vp_in (nI f) 6 := vp_in_nI hf (by omega)
    have ic : vp_in (nI c) 128 := vp_in_nI hc (by omega)
    refine pk_le 4 k (fun h => ⟨i6, ?_⟩) (fun h => ?_)
    · obtain ⟨so, hp2⟩ := hp nw h3 (fun i hi => h4 i (by omega))
      rw [nI_clamp (n := f) (by omega)]
      refine nm_e ⟨i6, nm_e (nt_fresh so hs (fun b s' ne' hs' fr => ⟨ic, ?_⟩))⟩
      rw [nI_clamp (n := c) (by omega)]
      exact nm_e ⟨ic, nm_e (nm_r (nI_1 m) (hp2 b s' ne' hs' fr))⟩
    · rw [nt_m4, nt_m4, nI_clamp (n := 4 * o + k) (by omega), nI_clamp (n := 4 * c + k) (by omega)]
      refine ⟨vp_in_nI (by omega) (by omega), vp_in_nI (by omega) (by omega), nm_e (nm_r (nI_1 k) ?_)⟩
      refine ih (k + 1) _ (by omega) (by omega) (fun j hj => ?_) (fun i hi => ?_)
      · rw [pk_un (by omega)]; exact h3 j hj
      · by_cases e : i = k
        · subst e; rw [pk_us]; exact h3 _ (by omega)
        · rw [pk_un (by omega)]; exact h4 i (by omega)
/-- file f's node goes to block c, the chain's next -/
theorem nt_XI_fs {N m c f o q : Nat} {G F : Nat → Nat} {nw' : Nat → Int32} (X : nt_XI N m c G F wd nf ns nw mk cn pn pc no la th sz ws) (hm : m < 20) (hf : f < 6)
    (ho : o < 128) (hq : q ≤ 4) (e2 : th f = 1) (e1 : no f = nI o) (ez : sz f = nI q) (es : ns o = nI q) (hd : ∀ i, i < q → ∃ d, d < 128 ∧ nw (4 * o + i) = nI d ∧ wd d = ws (4 * f + i))
    (k1 : ∀ j, j < 4 * c ∨ 4 * c + 4 ≤ j → nw' j = nw j) (k2 : ∀ i, i < 4 → nw' (4 * c + i) = nw (4 * o + i)) :
    nt_SO N m G (nI c) (upd ns c (nI q)) nw' cn pn pc (upd no f (nI c)) (upd la f (nI c)) ∧
    ∀ b, nt_Fr N m G (nI c) (upd ns c (nI q)) nw' pn (upd no f (nI c)) (upd la f (nI c)) b →
      nt_XI N (m + 1) b (fun i => if i ≤ m then G i else b) (fun i => if i < m then F i else f) wd (upd nf c (nI f)) (upd ns c (nI q)) nw' (upd (upd mk b (-1)) c (nI N)) (upd cn c (nI b)) pn pc (upd no f (nI c)) (upd la f (nI c))
        (upd th (6 + f) 1) (upd sz (6 + f) (sz f)) (nt_cpw ws (6 + f) f) := by
  obtain ⟨hN, hm', hc, hA, hB, hP, hD, ⟨c1, c2, c3, c4⟩, hL⟩ := X
  have sm : ∀ x, x ≠ nI c → nt_Sm wd ns nw wd (upd ns c (nI q)) nw' x := fun x hx => nt_Sm_b hc hx (fun a e => pk_un e) k1
  have nd : nt_Nd wd (upd ns c (nI q)) nw' (nI c) 1 (nI q) (fun i => ws (4 * f + i)) := by
    refine Or.inr ⟨rfl, c, q, hc, hq, rfl, rfl, pk_us, fun i hi => ?_⟩
    obtain ⟨d, d1, d2, d3⟩ := hd i hi
    exact ⟨d, d1, (k2 i (by omega)).trans d2, d3⟩
  have gc : ∀ i, i < m → G i ≠ c := fun i hi e => c3 (by rw [← e]; exact (c4 i hi).2.2.1)
  refine ⟨⟨hN, hm', Or.inr ⟨c, hc, rfl⟩, fun g hg => ⟨?_, ?_, nt_Gd_fr (hP g hg) (sm _ (hD g hg).2.2)⟩, fun _ => c1, fun i hi => ⟨(c4 i hi).1, fun _ => (c4 i hi).2.1⟩⟩, fun b fr => ?_⟩
  · by_cases e : g = f
    · subst e; rw [pk_us]; exact nt_Nd_Gd nd
    · rw [pk_un e]; exact nt_Gd_fr (nt_Nd_Gd (hA g hg)) (sm _ (hD g hg).1)
  · by_cases e : g = f
    · subst e; rw [pk_us]; exact nt_Nd_Gd nd
    · rw [pk_un e]; exact nt_Gd_fr (nt_Nd_Gd (hB g hg)) (sm _ (hD g hg).2.1)
  · obtain ⟨f1, f2, f3, f4⟩ := fr
    have hbc : b ≠ c := fun e => f3 (congrArg nI e.symm)
    refine ⟨hN, by omega, f1, fun g hg => ?_, fun g hg => ?_, fun g hg => nt_Gd_fr (hP g hg) (sm _ (hD g hg).2.2), fun g hg => ⟨(f2 g hg).1.1, (f2 g hg).2.1.1, (f2 g hg).2.2.1⟩, ⟨?_, ?_, ?_, fun i hi => ?_⟩, fun g hg => ?_⟩
    · refine nt_Nd_cg (t := th g) (z := sz g) (w := fun i => ws (4 * g + i)) ?_ (pk_un (by omega)) (pk_un (by omega)) (fun i hi => nt_cpw_o hi (by omega))
      by_cases e : g = f
      · subst e; rw [pk_us, e2, ez]; exact nd
      · rw [pk_un e]; exact nt_Nd_fr (hA g hg) (sm _ (hD g hg).1)
    · by_cases e : g = f
      · subst e
        rw [pk_us]
        refine nt_Nd_cg nd pk_us (pk_us.trans ez) (fun i hi => nt_cpw_i hi)
      · rw [pk_un e]
        exact nt_Nd_cg (nt_Nd_fr (hB g hg) (sm _ (hD g hg).2.1)) (pk_un (by omega)) (pk_un (by omega)) (fun i hi => nt_cpw_o hi (by omega))
    · dsimp only; rw [if_pos (by omega)]; exact c1
    · dsimp only; rw [if_neg (by omega)]
    · rw [pk_un hbc, pk_us]; exact fun e => nt_ne1 hN e.symm
    · dsimp only
      by_cases e : i = m
      · subst e
        rw [if_pos (by omega), if_neg (by omega), if_neg (by omega), c2, pk_us, pk_us, pk_us]
        exact ⟨hc, rfl, rfl, hf, rfl⟩
      · have hi' : i < m := by omega
        obtain ⟨a1, a2, a3, a4, a5⟩ := c4 i hi'
        rw [if_pos (by omega), if_pos (by omega), if_pos (by omega), pk_un (gc i hi'), pk_un (gc i hi'), pk_un (f4 i hi'), pk_un (gc i hi')]
        exact ⟨a1, a2, a3, a4, a5⟩
    · rw [nt_roll_s]
      rw [if_neg (show ¬ m < m by omega), if_pos (Nat.le_refl m), c2]
      by_cases e : g = f
      · subst e; rw [pk_us, if_pos rfl]
      · rw [pk_un e, if_neg (fun e' => e e'.symm), hL g hg]
        exact (nt_roll_c m g (fun i hi => ⟨if_pos (by omega), if_pos hi⟩)).symm
theorem nt_fs53 {post : Int32 → SX → Prop} {N m s c f o q : Nat} {G F : Nat → Nat} (X : nt_XI N m c G F wd nf ns nw mk cn pn pc no la th sz ws) (hs : s < 16) (hm : m < 20) (hf : f < 6)
    (ho : o < 128) (hq : q ≤ 4) (e2 : th f = 1) (e1 : no f = nI o) (ez : sz f = nI q) (es : ns o = nI q) (hd : ∀ i, i < q → ∃ d, d < 128 ∧ nw (4 * o + i) = nI d ∧ wd d = ws (4 * f + i))
    (hp : ∀ b s' G' F' nf' ns' nw' mk' cn' no' la' ne', s' < 16 → nt_XI N (m + 1) b G' F' wd nf' ns' nw' mk' cn' pn pc no' la' (upd th (6 + f) 1) (upd sz (6 + f) (sz f)) (nt_cpw ws (6 + f) f) →
      post 0 (nI b, nI (m + 1), nI N, nI s', wd, nf', ns', nw', mk', cn', pb, pe, pn, pc, no', la', yo, ne')) :
    wX_fsync_53 post (nI f) (nI o) (nI c) (nI m) (nI N) (nI s) wd nf ns nw mk cn pb pe pn pc no la yo ne := by
  unfold wX_fsync_53
  have hc := X.2.2.1
  have ic : vp_in (nI c) 128 := vp_in_nI hc (by omega)
  have hoc : o ≠ c := fun e => (X.2.2.2.2.2.2.1 f hf).1 (e ▸ e1)
  rw [nI_clamp (n := c) (by omega), nI_clamp (n := o) (by omega), es]
  refine ⟨ic, nm_e ⟨vp_in_nI ho (by omega), ic, nm_e ⟨5, ?_⟩⟩⟩
  refine nt_fs80 (G := G) (nw0 := nw) hs hf ho hc hoc (fun nw' k1 k2 => ?_) 5 0 nw (by omega) (by omega) (fun _ _ => rfl) (fun i hi => by omega)
  obtain ⟨so, fin⟩ := nt_XI_fs X hm hf ho hq e2 e1 ez es hd k1 k2
  exact ⟨so, fun b s' ne' hs' fr => hp _ _ _ _ _ _ _ _ _ _ _ _ hs' (fin b fr)⟩
theorem nt_Yfs_b {post : Int32 → SY → Prop} {v : Int32} (h : v < 0 ∨ nI 6 ≤ v) (hp : post (-1) (th, sz, ws, yy)) : wpY_fsync post (th, sz, ws, yy) v := by
  unfold wpY_fsync
  dsimp only
  exact nt_test_b h (br_f (by decide) hp)
theorem nt_Yfs_n {post : Int32 → SY → Prop} {f : Nat} (hf : f < 6) (h : th f = 0) (hp : post (-3) (th, sz, ws, yy)) : wpY_fsync post (th, sz, ws, yy) (nI f) := by
  unfold wpY_fsync
  dsimp only
  exact nt_test_n hf h (br_f (by decide) hp)
theorem nt_Yfs_o {post : Int32 → SY → Prop} {f : Nat} (hf : f < 6) (h : th f = 1) (hy : yy f = 0)
    (hp : ∀ ws', (∀ g i, g < 12 → i < 4 → ws' (4 * g + i) = nt_cpw ws (6 + f) f (4 * g + i)) → post 0 (upd th (6 + f) 1, upd sz (6 + f) (sz f), ws', yy)) : wpY_fsync post (th, sz, ws, yy) (nI f) := by
  unfold wpY_fsync
  dsimp only
  refine nt_test_y hf h (br_t (by decide) ⟨vp_in_nI hf (by omega), ?_⟩)
  rw [nt_6a, nI_clamp (n := f) (by omega), nI_clamp (n := 6 + f) (by omega), nt_b1]
  refine br_t hy ⟨vp_in_nI (by omega) (by omega), nm_e (nt_copyC (by omega) (by omega) (fun ws' k1 k2 => hp ws' (fun g i hg hi => ?_)))⟩
  by_cases e : g = 6 + f
  · subst e; rw [nt_cpw_i hi]; exact k1 i hi
  · rw [nt_cpw_o hi e]; exact k2 g i hg hi e
theorem nt_Yfs_y {post : Int32 → SY → Prop} {f : Nat} (hf : f < 6) (h : th f = 1) (hy : ¬ yy f = 0) (hb : ∀ g, g < 6 → th g = 0 ∨ th g = 1)
    (hp : ∀ th' sz' ws' yy', (∀ g, g < 6 → nt_Cpy th' sz' ws' th sz ws g g) → (∀ g, g < 6 → nt_Cpy th' sz' ws' th sz ws (6 + g) g) → (∀ g, g < 6 → yy' g = 0) → post 1 (th', sz', ws', yy')) : wpY_fsync post (th, sz, ws, yy) (nI f) := by
  unfold wpY_fsync
  dsimp only
  refine nt_test_y hf h (br_t (by decide) ⟨vp_in_nI hf (by omega), ?_⟩)
  rw [nI_clamp (n := f) (by omega)]
  exact br_f hy (nt_Ysync hb hp)
theorem i_vc_fsync {k : Nat} {u : SX} {v : SY} (I : i_Rel k u v) (hk : k + 4 ≤ 2048) (v1 : Int32) : wpX_fsync (fun r u' => wpY_fsync (fun r' v' => r' = r ∧ i_Rel (k + 4) u' v') v v1) u v1 := by
  refine nt_el (P := fun u v => wpX_fsync (fun r u' => wpY_fsync (fun r' v' => r' = r ∧ i_Rel (k + 4) u' v') v v1) u v1) I ?_
  intro N m s c G F wd nf ns nw mk cn pb pe pn pc no la yo ne th sz ws yy hN hs X K Y
  unfold wpX_fsync
  dsimp only
  have R := nt_mk (k := k + 4) (ne := ne) (by omega) hs X K Y
  rcases nt_ix v1 with h | ⟨f, hf, rfl⟩
  · exact nt_bad_t h (br_f (by decide) (nt_Yfs_b h ⟨rfl, R⟩))
  have i6 : vp_in (nI f) 6 := vp_in_nI hf (by omega)
  refine nt_bad_f hf (br_t rfl ⟨i6, ?_⟩)
  rw [nI_clamp (n := f) (by omega)]
  have hA := X.2.2.2.1
  have hB := X.2.2.2.2.1
  have hm := X.2.1
  have hN1 : N + 1 < 2 ^ 31 := by omega
  rcases hA f hf with ⟨e1, e2⟩ | ⟨e2, o, q, ho, hq, e1, ez, es, hd⟩
  · exact nm_r e1 (br_t rfl (nt_Yfs_n hf e2 ⟨rfl, R⟩))
  refine nm_r e1 (br_f (nt_ne1 (by omega)) ⟨i6, br_c (fun hy => ?_) (fun hy => ?_)⟩)
  · have hy' : yy f = 0 := (Y f hf) ▸ hy
    refine pk_eq m 20 (fun e => ?_) (fun e => ?_)
    · refine nt_writePack hN1 hs (fun g hg => ⟨nt_Nd_Gd (hA g hg), nt_Nd_Gd (hB g hg)⟩) (fun b s' ne' pn' hs' k3 k4 => ?_)
      dsimp only
      have X' := nt_XI_pack (mk := mk) (nf := nf) (cn := cn) (pc := pc) hN1 hA hB k3 k4
      refine nt_fs53 X' hs' (by omega) hf ho hq e2 e1 ez es hd (fun b2 s2 G' F' nf' ns' nw' mk' cn' no' la' ne' hs2 X2 => ?_)
      refine nt_Yfs_o hf e2 hy' (fun ws' k5 => ⟨rfl, ?_⟩)
      exact nt_mk (by omega) hs2 (nt_XI_cg X2 (fun _ _ => rfl) (fun _ _ => rfl) k5) (nt_PK_next (nt_PK_pe K).1 (nt_PK_pe K).2) Y
    · refine nt_fs53 X hs (by omega) hf ho hq e2 e1 ez es hd (fun b2 s2 G' F' nf' ns' nw' mk' cn' no' la' ne' hs2 X2 => ?_)
      refine nt_Yfs_o hf e2 hy' (fun ws' k5 => ⟨rfl, ?_⟩)
      exact nt_mk (by omega) hs2 (nt_XI_cg X2 (fun _ _ => rfl) (fun _ _ => rfl) k5) K Y
  · have hy' : ¬ yy f = 0 := (Y f hf) ▸ hy
    refine nt_checkpoint hN1 hs (fun f hf => nt_Nd_Gd (hA f hf)) (fun b s' ne' pn' la' yo' hs' k1 k2 k3 k4 => ?_)
    dsimp only
    refine nt_Yfs_y hf e2 hy' (fun g hg => nt_Nd_t (hA g hg)) (fun th' sz' ws' yy' c1 c2 c3 => ⟨rfl, ?_⟩)
    exact nt_mk (by omega) hs' (nt_XI_ck hN1 X k1 k3 k4 c1 c2) (nt_PK_next (nt_PK_pe K).1 (nt_PK_pe K).2) (fun f hf => (k2 f hf).trans (c3 f hf).symm)
end NTl
end
section
section NTm
variable {ch cd nu sg : Int32} {wd nf ns nw mk cn pb pe pn pc no la yo ne : Nat → Int32} {th sz ws yy : Nat → Int32}
theorem nt_mt185 {post : SX → Prop} (hp : ∀ la', (∀ g, g < 6 → la' g = no g) → post (ch, cd, nu, sg, wd, nf, ns, nw, mk, cn, pb, pe, pn, pc, no, la', yo, ne)) :
    ∀ (n f : Nat) (la : Nat → Int32), 6 - f < n → f ≤ 6 → (∀ g, g < f → la g = no g) → wX_mount_185 post ch cd nu sg n (nI f) wd nf ns nw mk cn pb pe pn pc no la yo ne := by
  intro n
  induction n with
  | zero => intro f la h; omega
  | succ n ih =>
    intro f la h1 h2 h3
    rw [wX_mount_185]
    dsimp only
    refine pk_le 6 f (fun h => hp la (fun g hg => h3 g (by omega))) (fun h => ?_)
    have i6 : vp_in (nI f) 6 := vp_in_nI h (by omega)
    rw [nI_clamp (n := f) (by omega)]
    refine ⟨i6, i6, nm_e (nm_r (nI_1 f) (ih (f + 1) _ (by omega) (by omega) (fun g hg => ?_)))⟩
    by_cases e : g = f
    · subst e; exact pk_us
    · rw [pk_un e]; exact h3 g (by omega)
theorem nt_mt114 {post : SX → Prop} {N m c : Nat} {G F : Nat → Nat} {p : Nat → Int32} (hm : m ≤ 20) (hc : c < 128) (c2 : G m = c) (c3 : mk c ≠ nI N)
    (c4 : ∀ i, i < m → G i < 128 ∧ cn (G i) = nI (G (i + 1)) ∧ mk (G i) = nI N ∧ F i < 6 ∧ nf (G i) = nI (F i))
    (hp : ∀ no' la', (∀ g, g < 6 → no' g = nt_roll G F p m g) → (∀ g, g < 6 → la' g = no' g) → post (nI c, nI m, nI N, sg, wd, nf, ns, nw, mk, cn, pb, pe, pn, pc, no', la', yo, ne)) :
    ∀ (n i : Nat) (no : Nat → Int32), m - i < n → i ≤ m → (∀ g, g < 6 → no g = nt_roll G F p i g) →
    wX_mount_114 post (nI N) sg n (nI i) (nI (G i)) (nI i) wd nf ns nw mk cn pb pe pn pc no la yo ne := by
  intro n
  induction n with
  | zero => intro i no h; omega
  | succ n ih =>
    intro i no h1 h2 h3
    rw [wX_mount_114]
    dsimp only
    by_cases e : i = m
    · subst e
      have fin : ∃ n185, wX_mount_185 post (nI (G i)) (nI i) (nI N) sg n185 0 wd nf ns nw mk cn pb pe pn pc no la yo ne := ⟨7, by
        rw [c2]
        exact nt_mt185 (fun la' k => hp no la' h3 k) 7 0 la (by omega) (by omega) (fun g hg => by omega)⟩
      refine pk_le 20 i (fun _ => fin) (fun _ => ⟨?_, ?_⟩)
      · rw [c2]; exact vp_in_nI hc (by omega)
      · refine br_f ?_ fin
        rw [c2, nI_clamp (by omega)]; exact c3
    · obtain ⟨a1, a2, a3, a4, a5⟩ := c4 i (by omega)
      have ig : vp_in (nI (G i)) 128 := vp_in_nI a1 (by omega)
      refine pk_le 20 i (fun h => by omega) (fun _ => ⟨ig, ?_⟩)
      rw [nI_clamp (n := G i) (by omega), a3, a5, nI_clamp (n := F i) (by omega), a2]
      refine br_t rfl ⟨ig, vp_in_nI a4 (by omega), nm_e ⟨ig, nm_e (nm_r (nI_1 i) (nm_r (nI_1 i) ?_))⟩⟩
      refine ih (i + 1) _ (by omega) (by omega) (fun g hg => ?_)
      rw [nt_roll_s]
      by_cases e' : F i = g
      · subst e'; rw [pk_us, if_pos rfl]
      · rw [pk_un (fun z => e' z.symm), if_neg e']; exact h3 g hg
theorem nt_mt61 {post : SX → Prop} {N m c : Nat} {G F : Nat → Nat} (hm : m ≤ 20) (hc : c < 128) (c1 : pc (N % 2) = nI (G 0)) (c2 : G m = c) (c3 : mk c ≠ nI N)
    (c4 : ∀ i, i < m → G i < 128 ∧ cn (G i) = nI (G (i + 1)) ∧ mk (G i) = nI N ∧ F i < 6 ∧ nf (G i) = nI (F i))
    (hp : ∀ no' la' yo', (∀ g, g < 6 → no' g = nt_roll G F (fun f => pn (N % 2 * 6 + f)) m g) → (∀ g, g < 6 → la' g = no' g) → (∀ g, g < 6 → yo' g = 0) → post (nI c, nI m, nI N, sg, wd, nf, ns, nw, mk, cn, pb, pe, pn, pc, no', la', yo', ne)) :
    ∀ (n f : Nat) (no yo : Nat → Int32), 6 - f < n → f ≤ 6 → (∀ g, g < f → no g = pn (N % 2 * 6 + g)) → (∀ g, g < f → yo g = 0) →
    wX_mount_61 post (nI (N % 2)) ch cd (nI N) sg n (nI f) wd nf ns nw mk cn pb pe pn pc no la yo ne := by
  intro n
  induction n with
  | zero => intro f no yo h; omega
  | succ n ih =>
    intro f no yo h1 h2 h3 h4
    rw [wX_mount_61]
    dsimp only
    refine pk_le 6 f (fun h => ⟨vp_in_nI (by omega) (by omega), ?_⟩) (fun h => ?_)
    · rw [nI_clamp (n := N % 2) (by omega)]
      refine nm_r c1 ⟨m + 1, ?_⟩
      exact nt_mt114 (p := fun f => pn (N % 2 * 6 + f)) hm hc c2 c3 c4 (fun no' la' k1 k2 => hp no' la' yo k1 k2 (fun g hg => h4 g (by omega))) (m + 1) 0 no (by omega) (by omega) (fun g hg => h3 g (by omega))
    · have i6 : vp_in (nI f) 6 := vp_in_nI h (by omega)
      rw [nt_m6, nI_clamp (n := f) (by omega), nI_clamp (n := N % 2 * 6 + f) (by omega), nt_b0]
      refine ⟨vp_in_nI (by omega) (by omega), i6, nm_e ⟨i6, nm_e (nm_r (nI_1 f) ?_)⟩⟩
      refine ih (f + 1) _ _ (by omega) (by omega) (fun g hg => ?_) (fun g hg => ?_)
      · by_cases e : g = f
        · subst e; exact pk_us
        · rw [pk_un e]; exact h3 g (by omega)
      · by_cases e : g = f
        · subst e; exact pk_us
        · rw [pk_un e]; exact h4 g (by omega)
theorem nt_mount {post : SX → Prop} {N m c : Nat} {G F : Nat → Nat} (X : nt_XI N m c G F wd nf ns nw mk cn pn pc no la th sz ws) (K : nt_PK N pb pe)
    (hp : ∀ no' la' yo', (∀ g, g < 6 → no' g = la g) → (∀ g, g < 6 → la' g = la g) → (∀ g, g < 6 → yo' g = 0) → post (nI c, nI m, nI N, sg, wd, nf, ns, nw, mk, cn, pb, pe, pn, pc, no', la', yo', ne)) :
    wpX_mount post (ch, cd, nu, sg, wd, nf, ns, nw, mk, cn, pb, pe, pn, pc, no, la, yo, ne) := by
  obtain ⟨hN, hm, hc, hA, hB, hP, hD, ⟨c1, c2, c3, c4⟩, hL⟩ := X
  obtain ⟨n1, k0, k1, k2, k3⟩ := K
  have H : wX_mount_49 post (nI (N % 2)) ch cd nu sg wd nf ns nw mk cn pb pe pn pc no la yo ne := by
    unfold wX_mount_49
    refine ⟨vp_in_nI (by omega) (by omega), ?_⟩
    rw [nI_clamp (n := N % 2) (by omega)]
    refine nm_r k2 ⟨7, ?_⟩
    exact nt_mt61 hm hc c1 c2 c3 c4 (fun no' la' yo' j1 j2 j3 => hp no' la' yo' (fun g hg => (j1 g hg).trans (hL g hg).symm) (fun g hg => ((j2 g hg).trans (j1 g hg)).trans (hL g hg).symm) j3) 7 0 no yo (by omega) (by omega) (fun g hg => by omega) (fun g hg => by omega)
  unfold wpX_mount
  dsimp only
  refine br_t k1 (br_t k0 ?_)
  have : N % 2 = 0 ∨ N % 2 = 1 := by omega
  rcases this with e | e
  · have e' : (N + 1) % 2 = 1 := by omega
    rw [e] at k2 H
    rw [e'] at k3
    rw [k2, k3]
    exact br_t (nI_le (by omega) (by omega)) H
  · have e' : (N + 1) % 2 = 0 := by omega
    rw [e] at k2 H
    rw [e'] at k3
    rw [k2, k3]
    exact br_f (nI_ge (by omega) (by omega)) H
theorem nt_Ycr2 {post : Int32 → SY → Prop} {th0 sz0 ws0 : Nat → Int32} (hb : ∀ g, g < 6 → th0 (6 + g) = 0 ∨ th0 (6 + g) = 1)
    (hp : ∀ th' sz' ws' yy', (∀ g, g < 6 → nt_Cpy th' sz' ws' th0 sz0 ws0 g (6 + g)) → (∀ g, g < 6 → nt_Cpy th' sz' ws' th0 sz0 ws0 (6 + g) (6 + g)) → (∀ g, g < 6 → yy' g = 0) → post (nI (nt_cnt th' 6)) (th', sz', ws', yy')) :
    ∀ (n f : Nat) (th sz ws : Nat → Int32), 6 - f < n → f ≤ 6 → (∀ g, g < 6 → nt_Cpy th sz ws th0 sz0 ws0 (6 + g) (6 + g)) → (∀ g, g < f → nt_Cpy th sz ws th0 sz0 ws0 g (6 + g)) →
    wY_crash_2 post n (nI f) th sz ws yy := by
  intro n
  induction n with
  | zero => intro f th sz ws h; omega
  | succ n ih =>
    intro f th sz ws h1 h2 h3 h4
    rw [wY_crash_2]
    dsimp only
    refine pk_le 6 f (fun h => ?_) (fun h => ?_)
    · exact nt_Ycount (fun yy' k => hp th sz ws yy' (fun g hg => h4 g (by omega)) h3 k)
    · have e0 : vp_nar .boolean (th (6 + f)) = th (6 + f) := by rw [(h3 f h).1]; exact nt_nb (hb f h)
      rw [nt_6a, nI_clamp (n := f) (by omega), nI_clamp (n := 6 + f) (by omega), e0]
      refine ⟨vp_in_nI (by omega) (by omega), vp_in_nI (by omega) (by omega), nm_e (nt_copyC (by omega) (by omega) (fun ws' k1 k2 => nm_r (nI_1 f) ?_))⟩
      refine ih (f + 1) _ _ _ (by omega) (by omega) (fun g hg => ?_) (fun g hg => ?_)
      · exact nt_Cpy_o (h3 g hg) (by omega) (by omega) (fun g e => pk_un e) k2
      · by_cases e : g = f
        · subst e
          exact nt_Cpy_i (h3 g h) pk_us k1
        · exact nt_Cpy_o (h4 g (by omega)) (by omega) (by omega) (fun g e => pk_un e) k2
theorem i_vc_crash {k : Nat} {u : SX} {v : SY} (I : i_Rel k u v) (hk : k + 4 ≤ 2048) : wpX_crash (fun r u' => wpY_crash (fun r' v' => r' = r ∧ i_Rel (k + 4) u' v') v) u := by
  refine nt_el (P := fun u v => wpX_crash (fun r u' => wpY_crash (fun r' v' => r' = r ∧ i_Rel (k + 4) u' v') v) u) I ?_
  intro N m s c G F wd nf ns nw mk cn pb pe pn pc no la yo ne th sz ws yy hN hs X K Y
  unfold wpX_crash
  dsimp only
  have hB := X.2.2.2.2.1
  refine nt_mount X K (fun no' la' yo' j1 j2 j3 => ?_)
  dsimp only
  refine nt_count (th := fun g => th (6 + g)) (fun f hf => by rw [j1 f hf]; exact nt_Nd_1 (hB f hf)) ?_
  unfold wpY_crash
  dsimp only
  refine ⟨7, nt_Ycr2 (th0 := th) (sz0 := sz) (ws0 := ws) (fun g hg => nt_Nd_t (hB g hg)) (fun th' sz' ws' yy' c1 c2 c3 => ⟨?_, ?_⟩) 7 0 th sz ws (by omega) (by omega) (fun _ _ => nt_Cpy_rf) (fun g hg => by omega)⟩
  · rw [nt_cnt_cg 6 (fun g hg => (c1 g hg).1)]
  · refine nt_mk (G := G) (F := F) (by omega) hs ?_ K (fun f hf => (j3 f hf).trans (c3 f hf).symm)
    obtain ⟨hN, hm, hc, hA, hB, hP, hD, hC, hL⟩ := X
    refine ⟨hN, hm, hc, fun f hf => ?_, fun f hf => ?_, hP, fun f hf => ?_, hC, fun f hf => (j2 f hf).trans (hL f hf)⟩
    · rw [j1 f hf]; exact nt_Nd_cp (hB f hf) (c1 f hf)
    · rw [j2 f hf]; exact nt_Nd_cp (hB f hf) (c2 f hf)
    · rw [j1 f hf, j2 f hf]; exact ⟨(hD f hf).2.1, (hD f hf).2⟩
end NTm
end
section
section NTn
variable {ch cd nu sg : Int32} {wd nf ns nw mk cn pb pe pn pc no la yo ne : Nat → Int32} {th sz ws yy : Nat → Int32}
/-- two nodes show the same words -/
def nt_D (w w' : Nat → Int32) (q q' : Nat) : Prop := q = q' ∧ ∀ j, j < q → w j = w' j
theorem nt_df40 {post : Int32 → Prop} {a b q : Nat} {w w' : Nat → Int32} (ha : a < 128) (hb : b < 128) (hq : q ≤ 4) (es : ns a = nI q)
    (h1 : ∀ i, i < q → ∃ d, d < 128 ∧ nw (4 * a + i) = nI d ∧ wd d = w i) (h2 : ∀ i, i < q → ∃ d, d < 128 ∧ nw (4 * b + i) = nI d ∧ wd d = w' i)
    (p0 : nt_D w w' q q → post 0) (p1 : ¬ nt_D w w' q q → post 1) :
    ∀ (n i : Nat), q - i < n → i ≤ q → (∀ j, j < i → w j = w' j) → wX_differs_40 post (nI a) (nI b) ch cd nu sg wd nf ns nw mk cn pb pe pn pc no la yo ne n (nI i) := by
  intro n
  induction n with
  | zero => intro i h; omega
  | succ n ih =>
    intro i k1 k2 k3
    rw [wX_differs_40]
    dsimp only
    refine ⟨vp_in_nI ha (by omega), ?_⟩
    rw [nI_clamp (n := a) (by omega), es]
    refine pk_le q i (fun h => p0 ⟨rfl, fun j hj => k3 j (by omega)⟩) (fun h => ?_)
    obtain ⟨d, d1, d2, d3⟩ := h1 i h
    obtain ⟨e, e1, e2, e3⟩ := h2 i h
    rw [nt_m4, nt_m4, nI_clamp (n := 4 * a + i) (by omega), nI_clamp (n := 4 * b + i) (by omega), d2, e2, nI_clamp (n := d) (by omega), nI_clamp (n := e) (by omega), d3, e3]
    refine ⟨vp_in_nI (by omega) (by omega), vp_in_nI d1 (by omega), vp_in_nI (by omega) (by omega), vp_in_nI e1 (by omega), br_c (fun z => nm_r (nI_1 i) ?_) (fun z => p1 (fun D => z (D.2 i h)))⟩
    refine ih (i + 1) (by omega) (by omega) (fun j hj => ?_)
    by_cases e : j = i
    · subst e; exact z
    · exact k3 j (by omega)
theorem nt_dfY33 {post : Int32 → Prop} {f q q' : Nat} (hf : f < 6) (hq : q ≤ 4) (hq' : q' ≤ 4) (ez : sz f = nI q) (ez' : sz (6 + f) = nI q')
    (p0 : nt_D (fun i => ws (4 * f + i)) (fun i => ws (4 * (6 + f) + i)) q q' → post 0) (p1 : ¬ nt_D (fun i => ws (4 * f + i)) (fun i => ws (4 * (6 + f) + i)) q q' → post 1) :
    ∀ (n i : Nat), q - i < n → i ≤ q → (∀ j, j < i → ws (4 * f + j) = ws (4 * (6 + f) + j)) → wY_differs_33 post (nI f) th sz ws yy n (nI i) := by
  intro n
  induction n with
  | zero => intro i h; omega
  | succ n ih =>
    intro i k1 k2 k3
    rw [wY_differs_33]
    dsimp only
    have i12 : vp_in (nI f) 12 := vp_in_nI (by omega) (by omega)
    refine ⟨i12, ?_⟩
    rw [nt_6a, nI_clamp (n := f) (by omega), nI_clamp (n := 6 + f) (by omega), ez, ez']
    refine pk_le q i (fun h => ⟨i12, vp_in_nI (by omega) (by omega), ?_⟩) (fun h => ?_)
    · exact pk_eq q q' (fun e => p0 ⟨e, fun j hj => k3 j (by omega)⟩) (fun e => p1 (fun D => e D.1))
    · rw [nt_4m, nt_244m, nI_clamp (n := 4 * f + i) (by omega), nI_clamp (n := 4 * (6 + f) + i) (by omega)]
      refine ⟨vp_in_nI (by omega) (by omega), vp_in_nI (by omega) (by omega), br_c (fun z => nm_r (nI_1 i) ?_) (fun z => p1 (fun D => z (D.2 i h)))⟩
      refine ih (i + 1) (by omega) (by omega) (fun j hj => ?_)
      by_cases e : j = i
      · subst e; exact z
      · exact k3 j (by omega)
theorem nt_differs {f : Nat} (hf : f < 6) (hA : nt_Nd wd ns nw (no f) (th f) (sz f) (fun i => ws (4 * f + i))) (hB : nt_Nd wd ns nw (la f) (th (6 + f)) (sz (6 + f)) (fun i => ws (4 * (6 + f) + i))) :
    ∃ r : Int32, (∀ post : Int32 → Prop, post r → wpX_differs post (ch, cd, nu, sg, wd, nf, ns, nw, mk, cn, pb, pe, pn, pc, no, la, yo, ne) (no f) (la f)) ∧ (∀ post : Int32 → Prop, post r → wpY_differs post (th, sz, ws, yy) (nI f)) := by
  have i12 : vp_in (nI f) 12 := vp_in_nI (by omega) (by omega)
  have j12 : vp_in (nI (6 + f)) 12 := vp_in_nI (by omega) (by omega)
  have HY : ∀ post : Int32 → Prop, ((th f = th (6 + f) → (th f = 0 → post 0) ∧ (¬ th f = 0 → ∃ n33 : Nat, wY_differs_33 post (nI f) th sz ws yy n33 0)) ∧ (¬ th f = th (6 + f) → post 1)) → wpY_differs post (th, sz, ws, yy) (nI f) := by
    intro post h
    unfold wpY_differs
    dsimp only
    rw [nt_6a, nI_clamp (n := f) (by omega), nI_clamp (n := 6 + f) (by omega)]
    exact ⟨i12, j12, br_c (fun e => ⟨i12, h.1 e⟩) h.2⟩
  rcases hA with ⟨a1, a2⟩ | ⟨a2, a, q, ha, hq, a1, az, as, ad⟩
  · rcases hB with ⟨b1, b2⟩ | ⟨b2, b, q', hb, hq', b1, bz, bs, bd⟩
    · refine ⟨0, fun post hp => ?_, fun post hp => HY post ?_⟩
      · unfold wpX_differs wX_differs_10
        dsimp only
        rw [a1, b1]
        exact br_t rfl (br_t rfl hp)
      · rw [a2, b2]
        exact br_t rfl (br_t rfl hp)
    · refine ⟨1, fun post hp => ?_, fun post hp => HY post ?_⟩
      · unfold wpX_differs wX_differs_10
        dsimp only
        rw [a1, b1]
        exact br_t rfl (br_f (fun e => nt_ne1 (by omega) e.symm) hp)
      · rw [a2, b2]
        exact br_f (by decide) hp
  · rcases hB with ⟨b1, b2⟩ | ⟨b2, b, q', hb, hq', b1, bz, bs, bd⟩
    · refine ⟨1, fun post hp => ?_, fun post hp => HY post ?_⟩
      · unfold wpX_differs wX_differs_10
        dsimp only
        rw [a1, b1]
        exact br_f (nt_ne1 (by omega)) (br_t rfl (br_f (nt_ne1 (by omega)) hp))
      · rw [a2, b2]
        exact br_f (by decide) hp
    · have ia : vp_in (nI a) 128 := vp_in_nI ha (by omega)
      have ib : vp_in (nI b) 128 := vp_in_nI hb (by omega)
      have HX : ∀ post : Int32 → Prop, (nt_D (fun i => ws (4 * f + i)) (fun i => ws (4 * (6 + f) + i)) q q' → post 0) → (¬ nt_D (fun i => ws (4 * f + i)) (fun i => ws (4 * (6 + f) + i)) q q' → post 1) → wpX_differs post (ch, cd, nu, sg, wd, nf, ns, nw, mk, cn, pb, pe, pn, pc, no, la, yo, ne) (no f) (la f) := by
        intro post p0 p1
        unfold wpX_differs
        dsimp only
        rw [a1, b1, nI_clamp (n := a) (by omega), nI_clamp (n := b) (by omega), as, bs]
        refine br_f (nt_ne1 (by omega)) (br_f (nt_ne1 (by omega)) ⟨ia, ib, pk_eq q q' (fun e => ?_) (fun e => p1 (fun D => e D.1))⟩)
        subst e
        exact ⟨q + 1, nt_df40 ha hb hq as ad bd p0 p1 (q + 1) 0 (by omega) (by omega) (fun j hj => by omega)⟩
      have HY2 : ∀ post : Int32 → Prop, (nt_D (fun i => ws (4 * f + i)) (fun i => ws (4 * (6 + f) + i)) q q' → post 0) → (¬ nt_D (fun i => ws (4 * f + i)) (fun i => ws (4 * (6 + f) + i)) q q' → post 1) → wpY_differs post (th, sz, ws, yy) (nI f) := by
        intro post p0 p1
        refine HY post ?_
        rw [a2, b2]
        exact br_t rfl (br_f (by decide) ⟨q + 1, nt_dfY33 hf hq hq' az bz p0 p1 (q + 1) 0 (by omega) (by omega) (fun j hj => by omega)⟩)
      by_cases D : nt_D (fun i => ws (4 * f + i)) (fun i => ws (4 * (6 + f) + i)) q q'
      · exact ⟨0, fun post hp => HX post (fun _ => hp) (fun n => absurd D n), fun post hp => HY2 post (fun _ => hp) (fun n => absurd D n)⟩
      · exact ⟨1, fun post hp => HX post (fun n => absurd n D) (fun _ => hp), fun post hp => HY2 post (fun n => absurd n D) (fun _ => hp)⟩
theorem nt_uns (hA : ∀ f, f < 6 → nt_Nd wd ns nw (no f) (th f) (sz f) (fun i => ws (4 * f + i))) (hB : ∀ f, f < 6 → nt_Nd wd ns nw (la f) (th (6 + f)) (sz (6 + f)) (fun i => ws (4 * (6 + f) + i))) :
    ∀ (d f : Nat) (x : Int32), f + d = 6 → ∃ r : Int32, (∀ post : Int32 → Prop, post r → wX_unsafe_4 post ch cd nu sg wd nf ns nw mk cn pb pe pn pc no la yo ne (d + 1) x (nI f)) ∧ (∀ post : Int32 → Prop, post r → wY_unsafe_4 post th sz ws yy (d + 1) x (nI f)) := by
  intro d
  induction d with
  | zero =>
    intro f x h
    have h6 : (6 : Int32) ≤ nI f := nI_le (a := 6) (by omega) (by omega)
    exact ⟨x, fun post hp => by rw [wX_unsafe_4]; exact br_t h6 hp, fun post hp => by rw [wY_unsafe_4]; exact br_t h6 hp⟩
  | succ d ih =>
    intro f x h
    have hf : f < 6 := by omega
    have h6 : ¬ (6 : Int32) ≤ nI f := nI_ge (b := 6) hf (by omega)
    have i6 : vp_in (nI f) 6 := vp_in_nI hf (by omega)
    obtain ⟨r, rX, rY⟩ := nt_differs (ch := ch) (cd := cd) (nu := nu) (sg := sg) (nf := nf) (mk := mk) (cn := cn) (pb := pb) (pe := pe) (pn := pn) (pc := pc) (yo := yo) (ne := ne) (yy := yy) hf (hA f hf) (hB f hf)
    by_cases z : r = 0
    · obtain ⟨r', kX, kY⟩ := ih (f + 1) x (by omega)
      refine ⟨r', fun post hp => ?_, fun post hp => ?_⟩
      · rw [wX_unsafe_4]
        dsimp only
        rw [nI_clamp (n := f) (by omega)]
        exact br_f h6 ⟨i6, i6, rX _ (br_t z (nm_r (nI_1 f) (kX post hp)))⟩
      · rw [wY_unsafe_4]
        dsimp only
        exact br_f h6 (rY _ (br_t z (nm_r (nI_1 f) (kY post hp))))
    · obtain ⟨r', kX, kY⟩ := ih (f + 1) (x + 1) (by omega)
      refine ⟨r', fun post hp => ?_, fun post hp => ?_⟩
      · rw [wX_unsafe_4]
        dsimp only
        rw [nI_clamp (n := f) (by omega)]
        exact br_f h6 ⟨i6, i6, rX _ (br_f z (nm_e (nm_r (nI_1 f) (kX post hp))))⟩
      · rw [wY_unsafe_4]
        dsimp only
        exact br_f h6 (rY _ (br_f z (nm_e (nm_r (nI_1 f) (kY post hp)))))
theorem i_vc_unsafe {k : Nat} {u : SX} {v : SY} (I : i_Rel k u v) (hk : k + 4 ≤ 2048) : wpX_unsafe (fun r => wpY_unsafe (fun r' => r' = r ∧ i_Rel (k + 4) u v) v) u := by
  refine nt_el (P := fun u v => wpX_unsafe (fun r => wpY_unsafe (fun r' => r' = r ∧ i_Rel (k + 4) u v) v) u) I ?_
  intro N m s c G F wd nf ns nw mk cn pb pe pn pc no la yo ne th sz ws yy hN hs X K Y
  have R := nt_mk (k := k + 4) (ne := ne) (by omega) hs X K Y
  obtain ⟨r, rX, rY⟩ := nt_uns (ch := nI c) (cd := nI m) (nu := nI N) (sg := nI s) (nf := nf) (mk := mk) (cn := cn) (pb := pb) (pe := pe) (pn := pn) (pc := pc) (yo := yo) (ne := ne) (yy := yy) X.2.2.2.1 X.2.2.2.2.1 6 0 0 (by omega)
  unfold wpX_unsafe
  dsimp only
  refine ⟨7, rX _ ?_⟩
  unfold wpY_unsafe
  dsimp only
  exact ⟨7, rY _ ⟨rfl, R⟩⟩
end NTn
end
section
section NTo
variable {ch cd nu sg : Int32} {wd nf ns nw mk cn pb pe pn pc no la yo ne : Nat → Int32} {th sz ws yy : Nat → Int32}
/-- the sum behind i words of file f -/
def nt_ds (f : Nat) (w : Nat → Int32) (x : Int32) : Nat → Int32
  | 0 => x
  | i + 1 => nt_ds f w x i + (((8 * nI f) + nI i) + 1) * w i
theorem nt_dg44 {post : Int32 → Prop} {J : Int32 → Int32 → Prop} {f b q : Nat} {x : Int32} {w : Nat → Int32} (hb : b < 128) (hq : q ≤ 4) (es : ns b = nI q)
    (hd : ∀ i, i < q → ∃ d, d < 128 ∧ nw (4 * b + i) = nI d ∧ wd d = w i) (hp : J (nt_ds f w x q) (nI (f + 1))) :
    ∀ (n i : Nat), q - i < n → i ≤ q → wX_digest_44 post J (nI f) (nI b) ch cd nu sg wd nf ns nw mk cn pb pe pn pc no la yo ne n (nt_ds f w x i) (nI i) := by
  intro n
  induction n with
  | zero => intro i h; omega
  | succ n ih =>
    intro i k1 k2
    rw [wX_digest_44]
    dsimp only
    refine ⟨vp_in_nI hb (by omega), ?_⟩
    rw [nI_clamp (n := b) (by omega), es]
    refine pk_le q i (fun h => nm_r (nI_1 f) ?_) (fun h => ?_)
    · have : i = q := by omega
      subst this
      exact hp
    · obtain ⟨d, d1, d2, d3⟩ := hd i h
      rw [nt_m4, nI_clamp (n := 4 * b + i) (by omega), d2, nI_clamp (n := d) (by omega), d3]
      exact ⟨vp_in_nI (by omega) (by omega), vp_in_nI d1 (by omega), nm_e (nm_r (nI_1 i) (ih (i + 1) (by omega) (by omega)))⟩
theorem nt_z (x a : Int32) : x + a * 0 = x := by
  rw [Int32.mul_zero, Int32.add_zero]
theorem nt_dgYa {post : Int32 → Prop} {J : Int32 → Int32 → Prop} {f q : Nat} {x : Int32} (hf : f < 6) (hA : th f = 0 ∨ (th f = 1 ∧ q ≤ 4 ∧ sz f = nI q)) (hp : J x (nI (f + 1))) :
    ∀ (n i : Nat), 4 - i < n → i ≤ 4 → (th f = 0 ∨ q ≤ i) → wY_digest_44 post J (nI f) th sz ws yy n x (nI i) := by
  intro n
  induction n with
  | zero => intro i h; omega
  | succ n ih =>
    intro i k1 k2 k3
    rw [wY_digest_44]
    dsimp only
    refine pk_le 4 i (fun h => nm_r (nI_1 f) hp) (fun h => ?_)
    have H := ih (i + 1) (by omega) (by omega) (k3.imp id (fun h => by omega))
    rcases hA with h0 | ⟨h0, hq, hz⟩
    · exact nt_Yrd_n hf h0 (nm_r (nt_z x _) (nm_r (nI_1 i) H))
    · refine nt_Yrd_y hf h0 (by omega) hq hz (fun h' => ?_) (fun _ => nm_r (nt_z x _) (nm_r (nI_1 i) H))
      rcases k3 with k3 | k3
      · rw [h0] at k3; exact absurd k3 (by decide)
      · omega
theorem nt_dgYb {post : Int32 → Prop} {J : Int32 → Int32 → Prop} {f q : Nat} {x : Int32} (hf : f < 6) (h0 : th f = 1) (hq : q ≤ 4) (hz : sz f = nI q)
    (hp : J (nt_ds f (fun i => ws (4 * f + i)) x q) (nI (f + 1))) :
    ∀ (n i : Nat), 4 - i < n → i ≤ q → wY_digest_44 post J (nI f) th sz ws yy n (nt_ds f (fun i => ws (4 * f + i)) x i) (nI i) := by
  intro n
  induction n with
  | zero => intro i h; omega
  | succ n ih =>
    intro i k1 k2
    by_cases e : i = q
    · subst e
      exact nt_dgYa hf (Or.inr ⟨h0, hq, hz⟩) hp (n + 1) i k1 (by omega) (Or.inr (Nat.le_refl i))
    · rw [wY_digest_44]
      dsimp only
      refine pk_le 4 i (fun h => by omega) (fun h => ?_)
      exact nt_Yrd_y hf h0 (by omega) hq hz (fun _ => nm_e (nm_r (nI_1 i) (ih (i + 1) (by omega) (by omega)))) (fun h => by omega)
theorem nt_dig (hA : ∀ f, f < 6 → nt_Nd wd ns nw (no f) (th f) (sz f) (fun i => ws (4 * f + i))) :
    ∀ (d f : Nat) (x : Int32), f + d = 6 → ∃ r : Int32, (∀ post : Int32 → Prop, post r → wX_digest_4 post ch cd nu sg wd nf ns nw mk cn pb pe pn pc no la yo ne (d + 1) x (nI f)) ∧ (∀ post : Int32 → Prop, post r → wY_digest_4 post th sz ws yy (d + 1) x (nI f)) := by
  intro d
  induction d with
  | zero =>
    intro f x h
    have h6 : (6 : Int32) ≤ nI f := nI_le (a := 6) (by omega) (by omega)
    exact ⟨x, fun post hp => by rw [wX_digest_4]; exact br_t h6 hp, fun post hp => by rw [wY_digest_4]; exact br_t h6 hp⟩
  | succ d ih =>
    intro f x h
    have hf : f < 6 := by omega
    have h6 : ¬ (6 : Int32) ≤ nI f := nI_ge (b := 6) hf (by omega)
    have i6 : vp_in (nI f) 6 := vp_in_nI hf (by omega)
    have i12 : vp_in (nI f) 12 := vp_in_nI (by omega) (by omega)
    rcases hA f hf with ⟨a1, a2⟩ | ⟨a2, b, q, hb, hq, a1, az, as, ad⟩
    · obtain ⟨r', kX, kY⟩ := ih (f + 1) x (by omega)
      refine ⟨r', fun post hp => ?_, fun post hp => ?_⟩
      · rw [wX_digest_4]
        dsimp only
        rw [nI_clamp (n := f) (by omega)]
        exact br_f h6 ⟨i6, nm_r a1 (br_t rfl (nm_r (nI_1 f) (kX post hp)))⟩
      · rw [wY_digest_4]
        dsimp only
        rw [nI_clamp (n := f) (by omega)]
        exact br_f h6 ⟨i12, br_t a2 ⟨5, nt_dgYa (q := 0) hf (Or.inl a2) (kY post hp) 5 0 (by omega) (by omega) (Or.inl a2)⟩⟩
    · obtain ⟨r', kX, kY⟩ := ih (f + 1) (nt_ds f (fun i => ws (4 * f + i)) (x + ((1000 * (nI f + 1)) * (nI q + 1))) q) (by omega)
      refine ⟨r', fun post hp => ?_, fun post hp => ?_⟩
      · rw [wX_digest_4]
        dsimp only
        rw [nI_clamp (n := f) (by omega)]
        refine br_f h6 ⟨i6, nm_r a1 (br_f (nt_ne1 (by omega)) ⟨vp_in_nI hb (by omega), ?_⟩)⟩
        rw [nI_clamp (n := b) (by omega), as]
        exact nm_e ⟨q + 1, nt_dg44 hb hq as ad (kX post hp) (q + 1) 0 (by omega) (by omega)⟩
      · rw [wY_digest_4]
        dsimp only
        rw [nI_clamp (n := f) (by omega), az]
        refine br_f h6 ⟨i12, br_f (by rw [a2]; decide) ⟨i12, nm_e ⟨5, ?_⟩⟩⟩
        exact nt_dgYb hf a2 hq az (kY post hp) 5 0 (by omega) (by omega)
theorem i_vc_digest {k : Nat} {u : SX} {v : SY} (I : i_Rel k u v) (hk : k + 4 ≤ 2048) : wpX_digest (fun r => wpY_digest (fun r' => r' = r ∧ i_Rel (k + 4) u v) v) u := by
  refine nt_el (P := fun u v => wpX_digest (fun r => wpY_digest (fun r' => r' = r ∧ i_Rel (k + 4) u v) v) u) I ?_
  intro N m s c G F wd nf ns nw mk cn pb pe pn pc no la yo ne th sz ws yy hN hs X K Y
  have R := nt_mk (k := k + 4) (ne := ne) (by omega) hs X K Y
  obtain ⟨r, rX, rY⟩ := nt_dig (ch := nI c) (cd := nI m) (nu := nI N) (sg := nI s) (nf := nf) (mk := mk) (cn := cn) (pb := pb) (pe := pe) (pn := pn) (pc := pc) (la := la) (yo := yo) (ne := ne) (yy := yy) X.2.2.2.1 6 0 0 (by omega)
  unfold wpX_digest
  dsimp only
  refine ⟨7, rX _ ?_⟩
  unfold wpY_digest
  dsimp only
  exact ⟨7, rY _ ⟨rfl, R⟩⟩
end NTo
end
