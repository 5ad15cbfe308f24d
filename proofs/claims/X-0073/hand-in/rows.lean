section
/-! part 01: rows pasted from the kit's rows (pk_), counts (turned from the worked proof large-2), small helpers -/
theorem pk_us {f : Nat → Int32} {k : Nat} {x : Int32} : upd f k x k = x := if_pos rfl
theorem pk_un {f : Nat → Int32} {k j : Nat} {x : Int32} (h : j ≠ k) : upd f k x j = f j := if_neg h
theorem pk_sub {a b : Nat} (h : b ≤ a) : nI a - nI b = nI (a - b) := by
  obtain ⟨c, rfl⟩ : ∃ c, a = c + b := ⟨a - b, by omega⟩
  rw [← nI_add, Int32.add_sub_cancel, Nat.add_sub_cancel]
theorem pk_mul (a b : Nat) : nI a * nI b = nI (a * b) := (Int32.ofNat_mul a b).symm
theorem pk_div {a d : Nat} (ha : a < 2 ^ 31) (h0 : 0 < d) (hd : d < 2 ^ 31) : nI a / nI d = nI (a / d) := by
  apply Int32.toInt_inj.mp
  rw [lg_idiv_nonneg (by rw [nI_toInt ha]; omega) (by rw [nI_toInt hd]; omega), nI_toInt ha, nI_toInt hd, nI_toInt (Nat.lt_of_le_of_lt (Nat.div_le_self a d) ha)]
  first | rfl | exact (Int.natCast_ediv _ _).symm
theorem pk_rem {a d : Nat} (ha : a < 2 ^ 31) (h0 : 0 < d) (hd : d < 2 ^ 31) : nI a - nI a / nI d * nI d = nI (a % d) := by
  rw [pk_div ha h0 hd, pk_mul, pk_sub (Nat.div_mul_le_self a d)]
  exact congrArg nI (by have := Nat.div_add_mod' a d; omega)
theorem pk_ix (x : Int32) {n : Nat} (hn : n < 2 ^ 31) : x < 0 ∨ nI n ≤ x ∨ ∃ j : Nat, j < n ∧ x = nI j := by
  by_cases h : x < 0
  · exact Or.inl h
  · obtain ⟨j, hj, rfl⟩ := nI_of h
    by_cases h2 : j < n
    · exact Or.inr (Or.inr ⟨j, h2, rfl⟩)
    · exact Or.inr (Or.inl (nI_le (by omega) hj))
theorem pk_cl {x : Int32} (n : Nat) (hx : x = nI n := by rfl) (h : n < 2 ^ 31 := by omega) : x.toNatClampNeg = n := by
  subst hx
  exact nI_clamp h
/-! counts -/
noncomputable def cz_b (P : Prop) : Nat := @ite Nat P (Classical.propDecidable P) 1 0
theorem cz_bt {P : Prop} (h : P) : cz_b P = 1 := by unfold cz_b; rw [if_pos h]
theorem cz_bf {P : Prop} (h : ¬ P) : cz_b P = 0 := by unfold cz_b; rw [if_neg h]
theorem cz_ble (P : Prop) : cz_b P ≤ 1 := by
  rcases Classical.em P with h | h
  · rw [cz_bt h]; omega
  · rw [cz_bf h]; omega
theorem cz_bm {P Q : Prop} (h : P → Q) : cz_b P ≤ cz_b Q := by
  rcases Classical.em P with hp | hp
  · rw [cz_bt hp, cz_bt (h hp)]; omega
  · rw [cz_bf hp]; omega
noncomputable def cz_n (P : Nat → Prop) : Nat → Nat
  | 0 => 0
  | k + 1 => cz_n P k + cz_b (P k)
theorem cz_mono {P Q : Nat → Prop} : ∀ {N : Nat}, (∀ k, k < N → P k → Q k) → cz_n P N ≤ cz_n Q N
  | 0, _ => Nat.le_refl _
  | N + 1, h => by
    have a := cz_mono (P := P) (Q := Q) (N := N) (fun k hk => h k (by omega))
    have b := cz_bm (h N (by omega))
    simp only [cz_n]; omega
theorem cz_lt {P Q : Nat → Prop} {a : Nat} (hp : ¬ P a) (hq : Q a) : ∀ {N : Nat}, (∀ k, k < N → P k → Q k) → a < N → cz_n P N < cz_n Q N
  | 0, _, h => by omega
  | N + 1, h, ha => by
    simp only [cz_n]
    rcases Nat.lt_or_ge a N with z | z
    · have x := cz_lt hp hq (N := N) (fun k hk => h k (by omega)) z
      have b := cz_bm (h N (by omega))
      omega
    · have e : a = N := by omega
      subst e
      have x := cz_mono (P := P) (Q := Q) (N := a) (fun k hk => h k (by omega))
      rw [cz_bt hq, cz_bf hp]; omega
theorem cz_le (P : Nat → Prop) : ∀ N, cz_n P N ≤ N
  | 0 => Nat.le_refl _
  | N + 1 => by have := cz_le P N; have := cz_ble (P N); simp only [cz_n]; omega
theorem cz_eq {P Q : Nat → Prop} {N : Nat} (h : ∀ k, k < N → (P k ↔ Q k)) : cz_n P N = cz_n Q N :=
  Nat.le_antisymm (cz_mono fun k hk => (h k hk).mp) (cz_mono fun k hk => (h k hk).mpr)
theorem cz_add {P : Nat → Prop} {a : Nat} (hp : ¬ P a) : ∀ {N : Nat}, a < N → cz_n (fun k => P k ∨ k = a) N = cz_n P N + 1
  | 0, h => by omega
  | N + 1, h => by
    simp only [cz_n]
    rcases Nat.lt_or_ge a N with z | z
    · rw [cz_add hp z]
      have : cz_b (P N ∨ N = a) = cz_b (P N) := Nat.le_antisymm (cz_bm fun q => q.elim id (fun e => by omega)) (cz_bm Or.inl)
      omega
    · have e : a = N := by omega
      subst e
      rw [cz_eq (P := fun k => P k ∨ k = a) (Q := P) (fun k hk => ⟨fun q => q.elim id (fun e => by omega), Or.inl⟩), cz_bt (Or.inr rfl), cz_bf hp]
/-- one that fails: fewer than all -/
theorem cz_ltN {P : Nat → Prop} {a N : Nat} (hp : ¬ P a) (ha : a < N) : cz_n P N < N :=
  Nat.lt_of_lt_of_le (cz_lt (Q := fun _ => True) hp trivial (fun _ _ _ => trivial) ha) (cz_le _ N)
/-- all counted: all hold -/
theorem cz_all {P : Nat → Prop} {N : Nat} (h : N ≤ cz_n P N) : ∀ a, a < N → P a := fun a ha =>
  Classical.byContradiction fun hp => absurd (cz_ltN hp ha) (by omega)
/-- none counted: none holds -/
theorem cz_none {P : Nat → Prop} {N : Nat} (h : cz_n P N = 0) : ∀ a, a < N → ¬ P a := fun a ha hp => by
  have := cz_lt (P := fun _ => False) (Q := P) (a := a) (fun z => z) hp (N := N) (fun _ _ z => z.elim) ha
  omega
theorem cz_ext {P : Nat → Prop} {N : Nat} : ∀ M, N ≤ M → (∀ k, N ≤ k → ¬ P k) → cz_n P M = cz_n P N := by
  intro M
  induction M with
  | zero => intro h _; have : N = 0 := by omega
            subst this; rfl
  | succ M ih =>
    intro h hk
    by_cases e : N = M + 1
    · subst e; rfl
    · simp only [cz_n]
      rw [ih (by omega) hk, cz_bf (hk M (by omega))]
      rfl
theorem cz_st {P : Nat → Prop} {i : Nat} (h : P i) : cz_n P (i + 1) = cz_n P i + 1 := by simp only [cz_n]; rw [cz_bt h]
theorem cz_sf {P : Nat → Prop} {i : Nat} (h : ¬ P i) : cz_n P (i + 1) = cz_n P i := by simp only [cz_n]; rw [cz_bf h]; rfl
/-! helpers over the printed forms -/
theorem xh_up {a : Nat → Int32} {x w : Int32} {P : (Nat → Int32) → Prop} (i : Nat) (h : P (upd a i w)) (hx : x = nI i := by rfl) (hi : i < 2 ^ 31 := by omega) : ∀ y, y = upd a x.toNatClampNeg w → P y := by
  intro y hy
  subst hx
  rw [nI_clamp hi] at hy
  rw [hy]
  exact h
theorem xh_2 (c : Nat) : (2 : Int32) * nI c = nI (2 * c) := pk_mul 2 c
theorem xh_16 (c : Nat) : (16 : Int32) * nI c = nI (16 * c) := pk_mul 16 c
theorem xh_d2 {p : Nat} (h : p < 1000) : nI p / 2 = nI (p / 2) := pk_div (a := p) (d := 2) (by omega) (by omega) (by omega)
theorem xh_d16 {p : Nat} (h : p < 1000) : nI p / 16 = nI (p / 16) := pk_div (a := p) (d := 16) (by omega) (by omega) (by omega)
theorem xh_m16 {p : Nat} (h : p < 1000) : nI p - nI p / 16 * 16 = nI (p % 16) := pk_rem (a := p) (d := 16) (by omega) (by omega) (by omega)
theorem xh_b0 : vp_nar .boolean 0 = 0 := rfl
theorem xh_b1 : vp_nar .boolean 1 = 1 := rfl
theorem xh_10 : ¬ (1 : Int32) = 0 := by decide
theorem xh_m1 : (-1 : Int32) < 0 := by decide
theorem xh_m1' : ¬ (0 : Int32) ≤ -1 := by decide
theorem xh_inj {a b : Nat} (h : nI a = nI b) (ha : a < 1000) (hb : b < 1000) : a = b := (nI_eq (by omega) (by omega)).mp h
theorem xh_nm {c : Nat} (h : c < 1000) : ¬ nI c = -1 := fun e => absurd (e ▸ xh_m1 : nI c < 0) (nI_pos (by omega))
theorem xh_cl {c : Nat} (h : c < 1000) : (nI c).toNatClampNeg = c := nI_clamp (by omega)
theorem xh_in {c N : Nat} (h : c < N) (hN : N < 1000) : vp_in (nI c) N := vp_in_nI h (by omega)
theorem xh_u0 {a : Nat → Int32} {x : Int32} {P : (Nat → Int32) → Prop} (i : Nat) (h : P (upd a i 0)) (hx : x = nI i := by rfl) (hi : i < 2 ^ 31 := by omega) : ∀ y, y = upd a x.toNatClampNeg (vp_nar .boolean 0) → P y := by
  rw [xh_b0]
  exact xh_up i h hx hi
theorem xh_u1 {a : Nat → Int32} {x : Int32} {P : (Nat → Int32) → Prop} (i : Nat) (h : P (upd a i 1)) (hx : x = nI i := by rfl) (hi : i < 2 ^ 31 := by omega) : ∀ y, y = upd a x.toNatClampNeg (vp_nar .boolean 1) → P y := by
  rw [xh_b1]
  exact xh_up i h hx hi
theorem cz_zero {P : Nat → Prop} : ∀ {N : Nat}, (∀ a, a < N → ¬ P a) → cz_n P N = 0
  | 0, _ => rfl
  | N + 1, h => by rw [cz_sf (h N (by omega))]; exact cz_zero (fun a ha => h a (by omega))
theorem xh_umono {re : Nat → Int32} {c : Nat} : ∀ x, ¬ re x = 0 → ¬ upd re c 1 x = 0 := by
  intro x hx
  by_cases e : x = c
  · subst e; rw [pk_us]; exact xh_10
  · rw [pk_un e]; exact hx
end
section
/-! part 02: the plain law: live sets, the alike relation, partitions named by least members -/
def xm_Cl (kd vl : Nat → Int32) (P : Nat → Prop) : Prop := ∀ p, p < 32 → P (p / 2) → kd p = 2 → P (vl p).toNatClampNeg
def xm_Lv (kd vl : Nat → Int32) (S : Nat → Prop) (c : Nat) : Prop := ∀ P : Nat → Prop, (∀ x, S x → P x) → xm_Cl kd vl P → P c
theorem xm_Lv_s {kd vl : Nat → Int32} {S : Nat → Prop} {c : Nat} (h : S c) : xm_Lv kd vl S c := fun _ hs _ => hs c h
theorem xm_Lv_c {kd vl : Nat → Int32} {S : Nat → Prop} : xm_Cl kd vl (xm_Lv kd vl S) := fun p hp h hk P hs hc => hc p hp (h P hs hc) hk
/-- the heap: states 0, 1, 2, none at cap or beyond; the fields of a cell are well formed -/
def xm_HK (cap : Nat) (st kd vl : Nat → Int32) : Prop :=
  (∀ c, cap ≤ c → st c = 0) ∧ (∀ c, st c = 0 ∨ st c = 1 ∨ st c = 2) ∧
  (∀ p, p < 32 → ¬ st (p / 2) = 0 → kd p = 0 ∨ kd p = 1 ∨ (kd p = 2 ∧ ∃ c, c < cap ∧ vl p = nI c ∧ ¬ st c = 0))
def xm_RK (cap rc : Nat) (st rt : Nat → Int32) : Prop := ∀ r, r < 8 → rt r = -1 ∨ (r < rc ∧ ∃ c, c < cap ∧ rt r = nI c ∧ ¬ st c = 0)
def xm_Rt (rt : Nat → Int32) (c : Nat) : Prop := c < 16 ∧ ∃ r, r < 8 ∧ rt r = nI c
/-- a live set: cells below cap, its fields refer into it -/
def xm_LK (cap : Nat) (st kd vl : Nat → Int32) (L : Nat → Prop) : Prop :=
  (∀ c, L c → c < cap ∧ ¬ st c = 0) ∧ (∀ p, p < 32 → L (p / 2) → kd p = 0 ∨ kd p = 1 ∨ (kd p = 2 ∧ ∃ c, c < cap ∧ vl p = nI c ∧ L c))
theorem xm_n02 {x : Int32} (h : x = 0) (h2 : x = 2) : False := by rw [h] at h2; exact absurd h2 (by decide)
theorem xm_n12 {x : Int32} (h : x = 1) (h2 : x = 2) : False := by rw [h] at h2; exact absurd h2 (by decide)
theorem xm_n01 {x : Int32} (h : x = 0) (h2 : x = 1) : False := by rw [h] at h2; exact absurd h2 (by decide)
section
variable {cap rc : Nat} {st tg kd vl rt : Nat → Int32} {S L : Nat → Prop} {R : Nat → Nat → Prop}
theorem xm_HK2 (H : xm_HK cap st kd vl) {p : Nat} (hp : p < 32) (hs : ¬ st (p / 2) = 0) (hk : kd p = 2) : ∃ c, c < cap ∧ vl p = nI c ∧ ¬ st c = 0 := by
  rcases H.2.2 p hp hs with h | h | h
  · exact (xm_n02 h hk).elim
  · exact (xm_n12 h hk).elim
  · exact h.2
theorem xm_LK2 (H : xm_LK cap st kd vl L) {p : Nat} (hp : p < 32) (hs : L (p / 2)) (hk : kd p = 2) : ∃ c, c < cap ∧ vl p = nI c ∧ L c := by
  rcases H.2 p hp hs with h | h | h
  · exact (xm_n02 h hk).elim
  · exact (xm_n12 h hk).elim
  · exact h.2
theorem xm_LK_of (hc : cap ≤ 16) (H : xm_HK cap st kd vl) (hS : ∀ c, S c → c < cap ∧ ¬ st c = 0) : xm_LK cap st kd vl (xm_Lv kd vl S) := by
  have h1 : ∀ c, xm_Lv kd vl S c → c < cap ∧ ¬ st c = 0 := by
    intro c h
    refine h (fun c => c < cap ∧ ¬ st c = 0) hS ?_
    intro p hp hP hk
    obtain ⟨d, hd, e, hs⟩ := xm_HK2 H hp hP.2 hk
    show (vl p).toNatClampNeg < cap ∧ ¬ st (vl p).toNatClampNeg = 0
    rw [e, xh_cl (by omega)]
    exact ⟨hd, hs⟩
  refine ⟨h1, fun p hp hL => ?_⟩
  rcases H.2.2 p hp (h1 _ hL).2 with h | h | h
  · exact Or.inl h
  · exact Or.inr (Or.inl h)
  · obtain ⟨hk, d, hd, e, hs⟩ := h
    refine Or.inr (Or.inr ⟨hk, d, hd, e, ?_⟩)
    have := xm_Lv_c p hp hL hk
    rw [e, xh_cl (by omega)] at this
    exact this
theorem xm_Rt_of (hc : cap ≤ 16) (H : xm_RK cap rc st rt) : ∀ c, xm_Rt rt c → c < cap ∧ ¬ st c = 0 := by
  intro c h
  obtain ⟨hc16, r, hr, e⟩ := h
  rcases H r hr with h | ⟨_, d, hd, e', hs⟩
  · rw [e] at h
    exact absurd h (xh_nm (by omega))
  · have : c = d := xh_inj (e.symm.trans e') (by omega) (by omega)
    subst this
    exact ⟨hd, hs⟩
end
/-! least members -/
def xm_Mn (L : Nat → Prop) (R : Nat → Nat → Prop) (c d : Nat) : Prop := L d ∧ R c d ∧ ∀ z, L z → R c z → d ≤ z
noncomputable def xm_kf (L : Nat → Prop) (R : Nat → Nat → Prop) (c : Nat) : Nat := Classical.epsilon (fun d => xm_Mn L R c d)
def xm_EQ (L : Nat → Prop) (R : Nat → Nat → Prop) : Prop :=
  (∀ x, L x → R x x) ∧ (∀ x y, L x → L y → R x y → R y x) ∧ (∀ x y z, L x → L y → L z → R x y → R y z → R x z)
def xm_BK (cap : Nat) (L : Nat → Prop) (R : Nat → Nat → Prop) (bl : Nat → Int32) : Prop :=
  ∀ c, c < cap → (L c → ∃ d, d ≤ c ∧ bl c = nI d ∧ xm_Mn L R c d) ∧ (¬ L c → bl c = nI c)
def xm_Kp (L : Nat → Prop) (R : Nat → Nat → Prop) (c : Nat) : Prop := L c ∧ xm_kf L R c = c
section
variable {cap : Nat} {L : Nat → Prop} {R R' : Nat → Nat → Prop} {bl bl' : Nat → Int32}
theorem xm_Mn_u {c d e : Nat} (h : xm_Mn L R c d) (h' : xm_Mn L R c e) : d = e := Nat.le_antisymm (h.2.2 e h'.1 h'.2.1) (h'.2.2 d h.1 h.2.1)
theorem xm_kf_e {c d : Nat} (h : xm_Mn L R c d) : xm_kf L R c = d := xm_Mn_u (Classical.epsilon_spec (p := fun d => xm_Mn L R c d) ⟨d, h⟩) h
theorem xm_Mn_s (E : xm_EQ L R) {c d : Nat} (hc : L c) (h : xm_Mn L R c d) : xm_Mn L R d d :=
  ⟨h.1, E.1 d h.1, fun z hz hr => h.2.2 z hz (E.2.2 c d z hc h.1 hz h.2.1 hr)⟩
theorem xm_BK_iff (hc : cap ≤ 16) (E : xm_EQ L R) (B : xm_BK cap L R bl) {x y : Nat} (hx : L x) (hy : L y) (hxc : x < cap) (hyc : y < cap) : bl x = bl y ↔ R x y := by
  obtain ⟨d, hd, ed, md⟩ := (B x hxc).1 hx
  obtain ⟨e, he, ee, me⟩ := (B y hyc).1 hy
  constructor
  · intro h
    rw [ed, ee] at h
    have : d = e := xh_inj h (by omega) (by omega)
    subst this
    exact E.2.2 x d y hx md.1 hy md.2.1 (E.2.1 y d hy md.1 me.2.1)
  · intro h
    rw [ed, ee]
    have h1 := md.2.2 e me.1 (E.2.2 x y e hx hy me.1 h me.2.1)
    have h2 := me.2.2 d md.1 (E.2.2 y x d hy hx md.1 (E.2.1 x y hx hy h) md.2.1)
    rw [Nat.le_antisymm h1 h2]
theorem xm_BK_mk (E : xm_EQ L R) (h0 : ∀ c, c < cap → ¬ L c → bl c = nI c)
    (h1 : ∀ c, c < cap → L c → ∃ d, d ≤ c ∧ bl c = nI d ∧ (d = c ∨ (L d ∧ R c d)) ∧ ∀ y, y < d → L y → ¬ R c y) : xm_BK cap L R bl := by
  intro c hc
  refine ⟨fun hL => ?_, h0 c hc⟩
  obtain ⟨d, hd, e, hor, hl⟩ := h1 c hc hL
  have hLR : L d ∧ R c d := by
    rcases hor with h | h
    · subst h; exact ⟨hL, E.1 _ hL⟩
    · exact h
  refine ⟨d, hd, e, hLR.1, hLR.2, fun z hz hr => ?_⟩
  rcases Nat.lt_or_ge z d with q | q
  · exact absurd hr (hl z q hz)
  · exact q
theorem xm_BK_kf (B : xm_BK cap L R bl) {c : Nat} (hc : c < cap) (hL : L c) : bl c = nI (xm_kf L R c) ∧ xm_Mn L R c (xm_kf L R c) ∧ xm_kf L R c ≤ c := by
  obtain ⟨d, hd, e, m⟩ := (B c hc).1 hL
  rw [xm_kf_e m]
  exact ⟨e, m, hd⟩
theorem xm_Kp_iff (hc16 : cap ≤ 16) (B : xm_BK cap L R bl) {c : Nat} (hc : c < cap) : (L c ∧ bl c = nI c) ↔ xm_Kp L R c := by
  constructor
  · intro h
    obtain ⟨e, m, hle⟩ := xm_BK_kf B hc h.1
    refine ⟨h.1, xh_inj (e.symm.trans h.2) (by omega) (by omega)⟩
  · intro h
    obtain ⟨e, m, hle⟩ := xm_BK_kf B hc h.1
    exact ⟨h.1, by rw [e, h.2]⟩
theorem xm_Kp_kf (E : xm_EQ L R) (B : xm_BK cap L R bl) {c : Nat} (hc : c < cap) (hL : L c) : xm_Kp L R (xm_kf L R c) := by
  obtain ⟨e, m, hle⟩ := xm_BK_kf B hc hL
  exact ⟨m.1, xm_kf_e (xm_Mn_s E hL m)⟩
theorem xm_BK_to (h : ∀ x y, L x → L y → (R x y ↔ R' x y)) (B : xm_BK cap L R bl) : xm_BK cap L R' bl := by
  intro c hc
  refine ⟨fun hL => ?_, (B c hc).2⟩
  obtain ⟨d, hd, e, m⟩ := (B c hc).1 hL
  exact ⟨d, hd, e, m.1, (h c d hL m.1).mp m.2.1, fun z hz hr => m.2.2 z hz ((h c z hL hz).mpr hr)⟩
theorem xm_EQ_to (h : ∀ x y, L x → L y → (R x y ↔ R' x y)) (E : xm_EQ L R) : xm_EQ L R' :=
  ⟨fun x hx => (h x x hx hx).mp (E.1 x hx), fun x y hx hy hr => (h y x hy hx).mp (E.2.1 x y hx hy ((h x y hx hy).mpr hr)),
   fun x y z hx hy hz h1 h2 => (h x z hx hz).mp (E.2.2 x y z hx hy hz ((h x y hx hy).mpr h1) ((h y z hy hz).mpr h2))⟩
/-- a finer partition that differs somewhere has more names -/
theorem xm_more (hc16 : cap ≤ 16) (E : xm_EQ L R) (E' : xm_EQ L R') (hsub : ∀ x y, L x → L y → R' x y → R x y) (hLc : ∀ c, L c → c < cap)
    (B : xm_BK cap L R bl) (B' : xm_BK cap L R' bl') (hd : ∃ c, c < cap ∧ ¬ bl' c = bl c) : cz_n (fun c => bl c = nI c) cap < cz_n (fun c => bl' c = nI c) cap := by
  obtain ⟨c, hc, hne⟩ := hd
  have hL : L c := Classical.byContradiction fun hn => hne (by rw [(B' c hc).2 hn, (B c hc).2 hn])
  obtain ⟨d, hd, ed, md⟩ := (B c hc).1 hL
  obtain ⟨d', hd', ed', md'⟩ := (B' c hc).1 hL
  have hdc' : d' < cap := by omega
  have hn1 : bl' d' = nI d' := by
    obtain ⟨z, hz, ez, mz⟩ := (B' d' hdc').1 md'.1
    rw [ez, xm_Mn_u mz (xm_Mn_s E' hL md')]
  have hn2 : ¬ bl d' = nI d' := by
    intro h
    have e2 : bl c = bl d' := (xm_BK_iff hc16 E B hL md'.1 hc hdc').mpr (hsub c d' hL md'.1 md'.2.1)
    exact hne (by rw [ed', e2, h])
  refine cz_lt (a := d') hn2 hn1 ?_ hdc'
  intro k hk hnk
  rcases Classical.em (L k) with hLk | hLk
  · obtain ⟨y, hy, ey, my⟩ := (B k hk).1 hLk
    obtain ⟨y', hy', ey', my'⟩ := (B' k hk).1 hLk
    have : y = k := xh_inj (ey.symm.trans hnk) (by omega) (by omega)
    subst this
    have h1 := my.2.2 y' my'.1 (hsub _ _ hLk my'.1 my'.2.1)
    have : y' = y := by omega
    rw [ey', this]
  · exact (B' k hk).2 hLk
end
/-! the alike relation -/
def xm_SC (kd vl : Nat → Int32) (p q : Nat) : Prop := kd p = kd q ∧ (kd p = 1 → vl p = vl q)
def xm_LL (st tg kd vl : Nat → Int32) (x y : Nat) : Prop :=
  st x = 2 ∧ st y = 2 ∧ tg x = tg y ∧ xm_SC kd vl (2 * x) (2 * y) ∧ xm_SC kd vl (2 * x + 1) (2 * y + 1)
def xm_TP (kd vl : Nat → Int32) (R : Nat → Nat → Prop) (p q : Nat) : Prop := kd p = 2 → R (vl p).toNatClampNeg (vl q).toNatClampNeg
def xm_TG (kd vl : Nat → Int32) (R : Nat → Nat → Prop) (x y : Nat) : Prop := xm_TP kd vl R (2 * x) (2 * y) ∧ xm_TP kd vl R (2 * x + 1) (2 * y + 1)
def xm_HB (st tg kd vl : Nat → Int32) (R : Nat → Nat → Prop) (x y : Nat) : Prop := x = y ∨ (xm_LL st tg kd vl x y ∧ xm_TG kd vl R x y)
def xm_PF (st tg kd vl : Nat → Int32) (R : Nat → Nat → Prop) : Prop := ∀ x y, x < 16 → y < 16 → R x y → xm_HB st tg kd vl R x y
def xm_Bi (st tg kd vl : Nat → Int32) (x y : Nat) : Prop := ∃ Q : Nat → Nat → Prop, xm_PF st tg kd vl Q ∧ Q x y
/-- same kind and, if they refer, related targets -/
def xm_SP (kd vl : Nat → Int32) (R : Nat → Nat → Prop) (p q : Nat) : Prop := kd p = kd q ∧ xm_TP kd vl R p q
def xm_ST (kd vl : Nat → Int32) (R : Nat → Nat → Prop) (x y : Nat) : Prop := xm_SP kd vl R (2 * x) (2 * y) ∧ xm_SP kd vl R (2 * x + 1) (2 * y + 1)
section
variable {cap : Nat} {st tg kd vl bl bl' : Nat → Int32} {L : Nat → Prop} {R R' : Nat → Nat → Prop}
theorem xm_HB_mono {x y : Nat} (h : ∀ a b, R a b → R' a b) (H : xm_HB st tg kd vl R x y) : xm_HB st tg kd vl R' x y := by
  rcases H with H | ⟨H, T1, T2⟩
  · exact Or.inl H
  · exact Or.inr ⟨H, fun hk => h _ _ (T1 hk), fun hk => h _ _ (T2 hk)⟩
theorem xm_Bi_pf : xm_PF st tg kd vl (xm_Bi st tg kd vl) := by
  intro x y hx hy h
  obtain ⟨Q, hQ, hxy⟩ := h
  exact xm_HB_mono (fun a b hab => ⟨Q, hQ, hab⟩) (hQ x y hx hy hxy)
theorem xm_Bi_r (x : Nat) : xm_Bi st tg kd vl x x := ⟨fun a b => a = b, fun _ _ _ _ h => Or.inl h, rfl⟩
theorem xm_LL_s {x y : Nat} (h : xm_LL st tg kd vl x y) : xm_LL st tg kd vl y x := by
  obtain ⟨a, b, c, ⟨d, e⟩, f, g⟩ := h
  exact ⟨b, a, c.symm, ⟨d.symm, fun z => (e (d.trans z)).symm⟩, f.symm, fun z => (g (f.trans z)).symm⟩
theorem xm_LL_t {x y z : Nat} (h : xm_LL st tg kd vl x y) (h' : xm_LL st tg kd vl y z) : xm_LL st tg kd vl x z := by
  obtain ⟨a, b, c, ⟨d, e⟩, f, g⟩ := h
  obtain ⟨a', b', c', ⟨d', e'⟩, f', g'⟩ := h'
  exact ⟨a, b', c.trans c', ⟨d.trans d', fun z => (e z).trans (e' (d.symm.trans z))⟩, f.trans f', fun z => (g z).trans (g' (f.symm.trans z))⟩
theorem xm_EQ_0 : xm_EQ L (fun x y => x = y ∨ xm_LL st tg kd vl x y) := by
  refine ⟨fun x _ => Or.inl rfl, fun x y _ _ h => ?_, fun x y z _ _ _ h h' => ?_⟩
  · rcases h with h | h
    · exact Or.inl h.symm
    · exact Or.inr (xm_LL_s h)
  · rcases h with h | h
    · subst h; exact h'
    · rcases h' with h' | h'
      · subst h'; exact Or.inr h
      · exact Or.inr (xm_LL_t h h')
theorem xm_SP_iff (hc : cap ≤ 16) (K : xm_LK cap st kd vl L) (E : xm_EQ L R) (B : xm_BK cap L R bl) {p q : Nat} (hp : p < 32) (hq : q < 32) (hLp : L (p / 2)) (hLq : L (q / 2)) :
    xm_SP kd vl (fun a b => bl a = bl b) p q ↔ xm_SP kd vl R p q := by
  have key : kd p = kd q → kd p = 2 → (bl (vl p).toNatClampNeg = bl (vl q).toNatClampNeg ↔ R (vl p).toNatClampNeg (vl q).toNatClampNeg) := by
    intro e h2
    obtain ⟨c, hcc, ec, lc⟩ := xm_LK2 K hp hLp h2
    obtain ⟨d, hdc, ed, ld⟩ := xm_LK2 K hq hLq (e.symm.trans h2)
    rw [ec, ed, xh_cl (by omega), xh_cl (by omega)]
    exact xm_BK_iff hc E B lc ld hcc hdc
  exact ⟨fun h => ⟨h.1, fun h2 => (key h.1 h2).mp (h.2 h2)⟩, fun h => ⟨h.1, fun h2 => (key h.1 h2).mpr (h.2 h2)⟩⟩
theorem xm_h0 (x : Nat) : 2 * x / 2 = x := by omega
theorem xm_h1 (x : Nat) : (2 * x + 1) / 2 = x := by omega
theorem xm_ST_iff (hc : cap ≤ 16) (K : xm_LK cap st kd vl L) (E : xm_EQ L R) (B : xm_BK cap L R bl) {x y : Nat} (hx : L x) (hy : L y) :
    xm_ST kd vl (fun a b => bl a = bl b) x y ↔ xm_ST kd vl R x y := by
  have hxc := (K.1 x hx).1
  have hyc := (K.1 y hy).1
  have a := xm_SP_iff (p := 2 * x) (q := 2 * y) hc K E B (by omega) (by omega) (by rw [xm_h0]; exact hx) (by rw [xm_h0]; exact hy)
  have b := xm_SP_iff (p := 2 * x + 1) (q := 2 * y + 1) hc K E B (by omega) (by omega) (by rw [xm_h1]; exact hx) (by rw [xm_h1]; exact hy)
  exact ⟨fun h => ⟨a.mp h.1, b.mp h.2⟩, fun h => ⟨a.mpr h.1, b.mpr h.2⟩⟩
theorem xm_SP_r (hc : cap ≤ 16) (K : xm_LK cap st kd vl L) (E : xm_EQ L R) {p : Nat} (hp : p < 32) (hL : L (p / 2)) : xm_SP kd vl R p p := by
  refine ⟨rfl, fun h2 => ?_⟩
  obtain ⟨c, hcc, ec, lc⟩ := xm_LK2 K hp hL h2
  rw [ec, xh_cl (by omega)]
  exact E.1 c lc
theorem xm_SP_s (hc : cap ≤ 16) (K : xm_LK cap st kd vl L) (E : xm_EQ L R) {p q : Nat} (hp : p < 32) (hq : q < 32) (hLp : L (p / 2)) (hLq : L (q / 2)) (h : xm_SP kd vl R p q) : xm_SP kd vl R q p := by
  refine ⟨h.1.symm, fun h2 => ?_⟩
  have h2' := h.1.trans h2
  have r := h.2 h2'
  obtain ⟨c, hcc, ec, lc⟩ := xm_LK2 K hp hLp h2'
  obtain ⟨d, hdc, ed, ld⟩ := xm_LK2 K hq hLq h2
  rw [ec, ed, xh_cl (by omega), xh_cl (by omega)] at r ⊢
  exact E.2.1 c d lc ld r
theorem xm_SP_t (hc : cap ≤ 16) (K : xm_LK cap st kd vl L) (E : xm_EQ L R) {p q s : Nat} (hp : p < 32) (hq : q < 32) (hs : s < 32) (hLp : L (p / 2)) (hLq : L (q / 2)) (hLs : L (s / 2))
    (h : xm_SP kd vl R p q) (h' : xm_SP kd vl R q s) : xm_SP kd vl R p s := by
  refine ⟨h.1.trans h'.1, fun h2 => ?_⟩
  have h2q := h.1.symm.trans h2
  have h2s := h'.1.symm.trans h2q
  have r := h.2 h2
  have r' := h'.2 h2q
  obtain ⟨c, hcc, ec, lc⟩ := xm_LK2 K hp hLp h2
  obtain ⟨d, hdc, ed, ld⟩ := xm_LK2 K hq hLq h2q
  obtain ⟨e, hec, ee, le⟩ := xm_LK2 K hs hLs h2s
  rw [ec, ed, xh_cl (by omega), xh_cl (by omega)] at r
  rw [ed, ee, xh_cl (by omega), xh_cl (by omega)] at r'
  rw [ec, ee, xh_cl (by omega), xh_cl (by omega)]
  exact E.2.2 c d e lc ld le r r'
theorem xm_EQ_st (hc : cap ≤ 16) (K : xm_LK cap st kd vl L) (E : xm_EQ L R) : xm_EQ L (fun x y => R x y ∧ xm_ST kd vl R x y) := by
  have hb : ∀ x, L x → 2 * x + 1 < 32 := fun x hx => by have := (K.1 x hx).1; omega
  have h0 : ∀ x, L x → L (2 * x / 2) := fun x hx => by rw [xm_h0]; exact hx
  have h1 : ∀ x, L x → L ((2 * x + 1) / 2) := fun x hx => by rw [xm_h1]; exact hx
  refine ⟨fun x hx => ⟨E.1 x hx, ?_, ?_⟩, fun x y hx hy h => ⟨E.2.1 x y hx hy h.1, ?_, ?_⟩, fun x y z hx hy hz h h' => ⟨E.2.2 x y z hx hy hz h.1 h'.1, ?_, ?_⟩⟩
  · exact xm_SP_r hc K E (by have := hb x hx; omega) (h0 x hx)
  · exact xm_SP_r hc K E (hb x hx) (h1 x hx)
  · exact xm_SP_s hc K E (by have := hb x hx; omega) (by have := hb y hy; omega) (h0 x hx) (h0 y hy) h.2.1
  · exact xm_SP_s hc K E (hb x hx) (hb y hy) (h1 x hx) (h1 y hy) h.2.2
  · exact xm_SP_t hc K E (by have := hb x hx; omega) (by have := hb y hy; omega) (by have := hb z hz; omega) (h0 x hx) (h0 y hy) (h0 z hz) h.2.1 h'.2.1
  · exact xm_SP_t hc K E (hb x hx) (hb y hy) (hb z hz) (h1 x hx) (h1 y hy) (h1 z hz) h.2.2 h'.2.2
end
end
section
/-! part 03: the refinement's invariant; the two heaps agree -/
def xm_LO (cap : Nat) (st tg kd vl : Nat → Int32) (L : Nat → Prop) (bl : Nat → Int32) : Prop :=
  (∀ c, c < cap → ¬ L c → bl c = nI c) ∧
  (∀ c, c < cap → L c → ∃ d, d ≤ c ∧ bl c = nI d ∧ (d = c ∨ (L d ∧ xm_LL st tg kd vl c d)) ∧ ∀ y, y < d → L y → ¬ xm_LL st tg kd vl c y)
def xm_RO (cap : Nat) (kd vl : Nat → Int32) (L : Nat → Prop) (bl bl' : Nat → Int32) : Prop :=
  (∀ c, c < cap → ¬ L c → bl' c = nI c) ∧
  (∀ c, c < cap → L c → ∃ d, d ≤ c ∧ bl' c = nI d ∧ (d = c ∨ (L d ∧ bl d = bl c ∧ xm_ST kd vl (fun a b => bl a = bl b) c d)) ∧
    ∀ y, y < d → L y → bl y = bl c → ¬ xm_ST kd vl (fun a b => bl a = bl b) c y)
def xm_PI (cap : Nat) (st tg kd vl : Nat → Int32) (L : Nat → Prop) (R : Nat → Nat → Prop) (bl : Nat → Int32) : Prop :=
  xm_EQ L R ∧ xm_BK cap L R bl ∧ (∀ x y, L x → L y → R x y → x = y ∨ xm_LL st tg kd vl x y) ∧ (∀ x y, L x → L y → xm_Bi st tg kd vl x y → R x y)
def xm_PJ (cap : Nat) (st tg kd vl : Nat → Int32) (L : Nat → Prop) (i : Nat) (b : Int32) (bl : Nat → Int32) : Prop :=
  ∃ R : Nat → Nat → Prop, xm_PI cap st tg kd vl L R bl ∧
    ((b = 0 ∧ ∀ x y, L x → L y → R x y → x = y ∨ xm_ST kd vl R x y) ∨ (b = 1 ∧ i ≤ cz_n (fun c => bl c = nI c) cap))
def xm_PP (cap : Nat) (st tg kd vl : Nat → Int32) (L : Nat → Prop) (bl : Nat → Int32) : Prop :=
  xm_EQ L (xm_Bi st tg kd vl) ∧ xm_BK cap L (xm_Bi st tg kd vl) bl
section
variable {cap : Nat} {st tg kd vl bl bl' : Nat → Int32} {L : Nat → Prop} {R R' : Nat → Nat → Prop}
theorem xm_PJ_0 (hc : cap ≤ 16) (K : xm_LK cap st kd vl L) (h : xm_LO cap st tg kd vl L bl) : xm_PJ cap st tg kd vl L 0 1 bl := by
  refine ⟨fun x y => x = y ∨ xm_LL st tg kd vl x y, ⟨xm_EQ_0, xm_BK_mk xm_EQ_0 h.1 ?_, fun x y _ _ h => h, ?_⟩, Or.inr ⟨rfl, Nat.zero_le _⟩⟩
  · intro c hc hL
    obtain ⟨d, hd, e, hor, hl⟩ := h.2 c hc hL
    refine ⟨d, hd, e, ?_, ?_⟩
    · rcases hor with q | q
      · exact Or.inl q
      · exact Or.inr ⟨q.1, Or.inr q.2⟩
    · intro y hy hLy hr
      rcases hr with q | q
      · omega
      · exact hl y hy hLy q
  · intro x y hx hy hb
    rcases xm_Bi_pf x y (by have := (K.1 x hx).1; omega) (by have := (K.1 y hy).1; omega) hb with q | q
    · exact Or.inl q
    · exact Or.inr q.1
theorem xm_TP_Bi (hc : cap ≤ 16) (K : xm_LK cap st kd vl L) (hB : ∀ x y, L x → L y → xm_Bi st tg kd vl x y → R x y) {p q : Nat} (hp : p < 32) (hq : q < 32) (hLp : L (p / 2)) (hLq : L (q / 2))
    (e : kd p = kd q) (h : xm_TP kd vl (xm_Bi st tg kd vl) p q) : xm_TP kd vl R p q := by
  intro h2
  have r := h h2
  obtain ⟨c, hcc, ec, lc⟩ := xm_LK2 K hp hLp h2
  obtain ⟨d, hdc, ed, ld⟩ := xm_LK2 K hq hLq (e.symm.trans h2)
  rw [ec, ed, xh_cl (by omega), xh_cl (by omega)] at r ⊢
  exact hB c d lc ld r
theorem xm_PI_s (hc : cap ≤ 16) (K : xm_LK cap st kd vl L) (P : xm_PI cap st tg kd vl L R bl) (O : xm_RO cap kd vl L bl bl') : xm_PI cap st tg kd vl L (fun x y => R x y ∧ xm_ST kd vl R x y) bl' := by
  obtain ⟨E, B, hs, hb⟩ := P
  have E' := xm_EQ_st hc K E
  refine ⟨E', xm_BK_mk E' O.1 ?_, fun x y hx hy h => hs x y hx hy h.1, ?_⟩
  · intro c hcc hL
    obtain ⟨d, hd, e, hor, hl⟩ := O.2 c hcc hL
    refine ⟨d, hd, e, ?_, ?_⟩
    · rcases hor with q | ⟨q1, q2, q3⟩
      · exact Or.inl q
      · exact Or.inr ⟨q1, (xm_BK_iff hc E B hL q1 hcc (K.1 d q1).1).mp q2.symm, (xm_ST_iff hc K E B hL q1).mp q3⟩
    · intro y hy hLy hr
      exact hl y hy hLy ((xm_BK_iff hc E B hL hLy hcc (K.1 y hLy).1).mpr hr.1).symm ((xm_ST_iff hc K E B hL hLy).mpr hr.2)
  · intro x y hx hy h
    have hxc := (K.1 x hx).1
    have hyc := (K.1 y hy).1
    refine ⟨hb x y hx hy h, ?_⟩
    rcases xm_Bi_pf x y (by omega) (by omega) h with q | ⟨q, t1, t2⟩
    · subst q
      exact (E'.1 x hx).2
    · obtain ⟨_, _, _, s1, s2⟩ := q
      exact ⟨⟨s1.1, xm_TP_Bi hc K hb (by omega) (by omega) (by rw [xm_h0]; exact hx) (by rw [xm_h0]; exact hy) s1.1 t1⟩,
        ⟨s2.1, xm_TP_Bi hc K hb (by omega) (by omega) (by rw [xm_h1]; exact hx) (by rw [xm_h1]; exact hy) s2.1 t2⟩⟩
theorem xm_PJ_s {i : Nat} {b : Int32} (hc : cap ≤ 16) (K : xm_LK cap st kd vl L) (P : xm_PJ cap st tg kd vl L i 1 bl) (O : xm_RO cap kd vl L bl bl')
    (hb : (b = 0 ∧ ∀ c, c < cap → bl' c = bl c) ∨ (b = 1 ∧ ∃ c, c < cap ∧ ¬ bl' c = bl c)) : xm_PJ cap st tg kd vl L (i + 1) b bl' := by
  obtain ⟨R, P, hor⟩ := P
  have P' := xm_PI_s hc K P O
  have hi : i ≤ cz_n (fun c => bl c = nI c) cap := by
    rcases hor with ⟨h, _⟩ | ⟨_, h⟩
    · exact absurd h (by decide)
    · exact h
  rcases hb with ⟨e, hsame⟩ | ⟨e, hdiff⟩
  · refine ⟨R, ⟨P.1, ?_, P.2.2.1, P.2.2.2⟩, Or.inl ⟨e, ?_⟩⟩
    · intro c hcc
      rw [hsame c hcc]
      exact P.2.1 c hcc
    · intro x y hx hy hr
      have hxc := (K.1 x hx).1
      have hyc := (K.1 y hy).1
      have h1 := (xm_BK_iff hc P.1 P.2.1 hx hy hxc hyc).mpr hr
      rw [← hsame x hxc, ← hsame y hyc] at h1
      exact Or.inr ((xm_BK_iff hc P'.1 P'.2.1 hx hy hxc hyc).mp h1).2
  · refine ⟨_, P', Or.inr ⟨e, ?_⟩⟩
    have := xm_more hc P.1 P'.1 (fun x y _ _ h => h.1) (fun c h => (K.1 c h).1) P.2.1 P'.2.1 hdiff
    omega
theorem xm_fix (hc : cap ≤ 16) (K : xm_LK cap st kd vl L) (P : xm_PI cap st tg kd vl L R bl) (hf : ∀ x y, L x → L y → R x y → x = y ∨ xm_ST kd vl R x y) :
    ∀ x y, L x → L y → (R x y ↔ xm_Bi st tg kd vl x y) := by
  intro x y hx hy
  refine ⟨fun hr => ⟨fun a b => L a ∧ L b ∧ R a b, ?_, hx, hy, hr⟩, P.2.2.2 x y hx hy⟩
  intro a b ha hb' h
  obtain ⟨la, lb, r⟩ := h
  rcases P.2.2.1 a b la lb r with q | q
  · exact Or.inl q
  · rcases hf a b la lb r with q' | q'
    · exact Or.inl q'
    · have key : ∀ p s, p < 32 → s < 32 → L (p / 2) → L (s / 2) → xm_SP kd vl R p s → xm_TP kd vl (fun a b => L a ∧ L b ∧ R a b) p s := by
        intro p s hp hs lp ls hsp h2
        have r := hsp.2 h2
        obtain ⟨c, hcc, ec, lc⟩ := xm_LK2 K hp lp h2
        obtain ⟨d, hdc, ed, ld⟩ := xm_LK2 K hs ls (hsp.1.symm.trans h2)
        show L _ ∧ L _ ∧ R _ _
        rw [ec, ed, xh_cl (by omega), xh_cl (by omega)] at r ⊢
        exact ⟨lc, ld, r⟩
      exact Or.inr ⟨q, key _ _ (by omega) (by omega) (by rw [xm_h0]; exact la) (by rw [xm_h0]; exact lb) q'.1,
        key _ _ (by omega) (by omega) (by rw [xm_h1]; exact la) (by rw [xm_h1]; exact lb) q'.2⟩
theorem xm_PJ_x {i : Nat} {b : Int32} (hc : cap ≤ 16) (K : xm_LK cap st kd vl L) (P : xm_PJ cap st tg kd vl L i b bl) (h : b = 0 ∨ cap ≤ i) : xm_PP cap st tg kd vl L bl := by
  obtain ⟨R, P, hor⟩ := P
  have hf : ∀ x y, L x → L y → R x y → x = y ∨ xm_ST kd vl R x y := by
    rcases hor with ⟨_, q⟩ | ⟨e, q⟩
    · exact q
    · intro x y hx hy hr
      have hi : cap ≤ i := by
        rcases h with z | z
        · exact (xm_n01 z e).elim
        · exact z
      have hall := cz_all (P := fun c => bl c = nI c) (N := cap) (by omega)
      have hxc := (K.1 x hx).1
      have hyc := (K.1 y hy).1
      have h1 := (xm_BK_iff hc P.1 P.2.1 hx hy hxc hyc).mpr hr
      rw [hall x hxc, hall y hyc] at h1
      exact Or.inl (xh_inj h1 (by omega) (by omega))
  have F := xm_fix hc K P hf
  exact ⟨xm_EQ_to F P.1, xm_BK_to F P.2.1⟩
end
/-! the two heaps agree where there is a cell -/
def xm_Ag (st tX kX vX tY kY vY : Nat → Int32) : Prop :=
  (∀ c, c < 16 → ¬ st c = 0 → tX c = tY c) ∧ (∀ p, p < 32 → ¬ st (p / 2) = 0 → kX p = kY p ∧ (¬ kX p = 0 → vX p = vY p))
section
variable {cap : Nat} {st tX kX vX tY kY vY : Nat → Int32} {S : Nat → Prop}
theorem xm_Ag_s (A : xm_Ag st tX kX vX tY kY vY) : xm_Ag st tY kY vY tX kX vX :=
  ⟨fun c hc hs => (A.1 c hc hs).symm, fun p hp hs => ⟨(A.2 p hp hs).1.symm, fun h => ((A.2 p hp hs).2 (fun z => h ((A.2 p hp hs).1.symm.trans z))).symm⟩⟩
theorem xm_HK_ag (A : xm_Ag st tX kX vX tY kY vY) (H : xm_HK cap st kX vX) : xm_HK cap st kY vY := by
  refine ⟨H.1, H.2.1, fun p hp hs => ?_⟩
  obtain ⟨e, ev⟩ := A.2 p hp hs
  rcases H.2.2 p hp hs with h | h | ⟨h, c, hc, hv, hcs⟩
  · exact Or.inl (e.symm.trans h)
  · exact Or.inr (Or.inl (e.symm.trans h))
  · refine Or.inr (Or.inr ⟨e.symm.trans h, c, hc, ?_, hcs⟩)
    rw [← ev (fun z => xm_n02 z h)]
    exact hv
theorem xm_Lv_ag1 (hc : cap ≤ 16) (A : xm_Ag st tX kX vX tY kY vY) (H : xm_HK cap st kX vX) (hS : ∀ c, S c → c < cap ∧ ¬ st c = 0) {c : Nat} (h : xm_Lv kX vX S c) : xm_Lv kY vY S c := by
  intro P hs hcl
  have := h (fun c => P c ∧ c < cap ∧ ¬ st c = 0) (fun x hx => ⟨hs x hx, hS x hx⟩) ?_
  · exact this.1
  · intro p hp hP hk
    obtain ⟨e, ev⟩ := A.2 p hp hP.2.2
    obtain ⟨d, hd, hv, hds⟩ := xm_HK2 H hp hP.2.2 hk
    have hY := hcl p hp hP.1 (e.symm.trans hk)
    rw [← ev (fun z => xm_n02 z hk)] at hY
    refine ⟨hY, ?_⟩
    rw [hv, xh_cl (by omega)]
    exact ⟨hd, hds⟩
theorem xm_Lv_ag (hc : cap ≤ 16) (A : xm_Ag st tX kX vX tY kY vY) (H : xm_HK cap st kX vX) (hS : ∀ c, S c → c < cap ∧ ¬ st c = 0) : xm_Lv kX vX S = xm_Lv kY vY S := by
  funext c
  exact propext ⟨xm_Lv_ag1 hc A H hS, xm_Lv_ag1 hc (xm_Ag_s A) (xm_HK_ag A H) hS⟩
theorem xm_SC_ag (A : xm_Ag st tX kX vX tY kY vY) {p q : Nat} (hp : p < 32) (hq : q < 32) (hsp : ¬ st (p / 2) = 0) (hsq : ¬ st (q / 2) = 0) (h : xm_SC kX vX p q) : xm_SC kY vY p q := by
  obtain ⟨e, ev⟩ := A.2 p hp hsp
  obtain ⟨f, fv⟩ := A.2 q hq hsq
  refine ⟨e.symm.trans (h.1.trans f), fun h1 => ?_⟩
  have h1' := e.trans h1
  rw [← ev (fun z => xm_n01 z h1'), ← fv (fun z => xm_n01 z (h.1.symm.trans h1'))]
  exact h.2 h1'
theorem xm_TP_ag {R : Nat → Nat → Prop} (A : xm_Ag st tX kX vX tY kY vY) {p q : Nat} (hp : p < 32) (hq : q < 32) (hsp : ¬ st (p / 2) = 0) (hsq : ¬ st (q / 2) = 0) (e0 : kX p = kX q) (h : xm_TP kX vX R p q) : xm_TP kY vY R p q := by
  obtain ⟨e, ev⟩ := A.2 p hp hsp
  obtain ⟨f, fv⟩ := A.2 q hq hsq
  intro h2
  have h2' := e.trans h2
  rw [← ev (fun z => xm_n02 z h2'), ← fv (fun z => xm_n02 z (e0.symm.trans h2'))]
  exact h h2'
theorem xm_Bi_ag1 (A : xm_Ag st tX kX vX tY kY vY) {x y : Nat} (h : xm_Bi st tX kX vX x y) : xm_Bi st tY kY vY x y := by
  obtain ⟨Q, hQ, hxy⟩ := h
  refine ⟨Q, fun a b ha hb hab => ?_, hxy⟩
  rcases hQ a b ha hb hab with q | ⟨⟨s1, s2, t, c1, c2⟩, g1, g2⟩
  · exact Or.inl q
  · have na : ¬ st a = 0 := fun z => xm_n02 z s1
    have nb : ¬ st b = 0 := fun z => xm_n02 z s2
    have n0 : ∀ x, ¬ st x = 0 → ¬ st (2 * x / 2) = 0 := fun x h => by rw [xm_h0]; exact h
    have n1 : ∀ x, ¬ st x = 0 → ¬ st ((2 * x + 1) / 2) = 0 := fun x h => by rw [xm_h1]; exact h
    refine Or.inr ⟨⟨s1, s2, ?_, ?_, ?_⟩, ?_, ?_⟩
    · rw [← A.1 a ha na, ← A.1 b hb nb]; exact t
    · exact xm_SC_ag A (by omega) (by omega) (n0 a na) (n0 b nb) c1
    · exact xm_SC_ag A (by omega) (by omega) (n1 a na) (n1 b nb) c2
    · exact xm_TP_ag A (by omega) (by omega) (n0 a na) (n0 b nb) c1.1 g1
    · exact xm_TP_ag A (by omega) (by omega) (n1 a na) (n1 b nb) c2.1 g2
theorem xm_Bi_ag (A : xm_Ag st tX kX vX tY kY vY) : xm_Bi st tX kX vX = xm_Bi st tY kY vY := by
  funext x y
  exact propext ⟨xm_Bi_ag1 A, xm_Bi_ag1 (xm_Ag_s A)⟩
end
end
section
/-! part 04: the component's trace -/
def xm_TI (cap : Nat) (kd vl : Nat → Int32) (L : Nat → Prop) (q h : Nat) (re qu : Nat → Int32) : Prop :=
  q = cz_n (fun c => ¬ re c = 0) cap ∧ h ≤ q ∧
  (∀ i, i < q → ∃ c, c < cap ∧ qu i = nI c ∧ ¬ re c = 0) ∧
  (∀ c, c < cap → ¬ re c = 0 → L c ∧ ∃ i, i < q ∧ qu i = nI c) ∧
  (∀ i, i < h → ∀ c, c < cap → qu i = nI c → ∀ p, p < 32 → p / 2 = c → kd p = 2 → ¬ re (vl p).toNatClampNeg = 0)
section
variable {cap rc : Nat} {ql : Int32} {st tg kd vl rt re qu bl nb : Nat → Int32} {L : Nat → Prop}
theorem xm_TI_v {q h c : Nat} (T : xm_TI cap kd vl L q h re qu) (hc : c < cap) (hL : L c) (h0 : re c = 0) : q < cap ∧ xm_TI cap kd vl L (q + 1) h (upd re c 1) (upd qu q (nI c)) := by
  obtain ⟨t1, t2, t3, t4, t5⟩ := T
  have hq : q < cap := by rw [t1]; exact cz_ltN (P := fun c => ¬ re c = 0) (a := c) (fun z => z h0) hc
  refine ⟨hq, ?_, by omega, ?_, ?_, ?_⟩
  · have e : cz_n (fun d => ¬ upd re c 1 d = 0) cap = cz_n (fun d => (¬ re d = 0) ∨ d = c) cap := by
      apply cz_eq
      intro d _
      by_cases e : d = c
      · subst e
        exact ⟨fun _ => Or.inr rfl, fun _ => by rw [pk_us]; exact xh_10⟩
      · rw [pk_un e]
        exact ⟨Or.inl, fun z => z.elim id (fun w => absurd w e)⟩
    rw [e, cz_add (P := fun d => ¬ re d = 0) (fun z => z h0) hc, ← t1]
  · intro i hi
    by_cases e : i = q
    · subst e
      exact ⟨c, hc, pk_us, by rw [pk_us]; exact xh_10⟩
    · obtain ⟨d, hd, ed, rd⟩ := t3 i (by omega)
      exact ⟨d, hd, by rw [pk_un e]; exact ed, xh_umono d rd⟩
  · intro d hd hr
    by_cases e : d = c
    · subst e
      exact ⟨hL, q, by omega, pk_us⟩
    · rw [pk_un e] at hr
      obtain ⟨l, i, hi, ei⟩ := t4 d hd hr
      exact ⟨l, i, by omega, by rw [pk_un (by omega)]; exact ei⟩
  · intro i hi d hd ed p hp ep hk
    rw [pk_un (by omega)] at ed
    exact xh_umono _ (t5 i hi d hd ed p hp ep hk)
theorem xm_TI_h {q i c : Nat} (hc16 : cap ≤ 16) (T : xm_TI cap kd vl L q i re qu) (hi : i < q) (hc : c < cap) (e : qu i = nI c) (hf : ∀ p, p < 32 → p / 2 = c → kd p = 2 → ¬ re (vl p).toNatClampNeg = 0) : xm_TI cap kd vl L q (i + 1) re qu := by
  obtain ⟨t1, t2, t3, t4, t5⟩ := T
  refine ⟨t1, by omega, t3, t4, ?_⟩
  intro j hj d hd ed p hp ep hk
  by_cases z : j = i
  · subst z
    have : d = c := xh_inj (ed.symm.trans e) (by omega) (by omega)
    subst this
    exact hf p hp ep hk
  · exact t5 j (by omega) d hd ed p hp ep hk
theorem xm_TI_x {q h : Nat} (T : xm_TI cap kd vl L q h re qu) (hq : q ≤ h) : ∀ p, p < 32 → p / 2 < cap → ¬ re (p / 2) = 0 → kd p = 2 → ¬ re (vl p).toNatClampNeg = 0 := by
  obtain ⟨t1, t2, t3, t4, t5⟩ := T
  intro p hp hpc hr hk
  obtain ⟨_, i, hi, ei⟩ := t4 _ hpc hr
  exact t5 i (by omega) _ hpc ei p hp rfl hk
theorem xm_Lv_iff {S : Nat → Prop} (hc : cap ≤ 16) (K : xm_LK cap st kd vl (xm_Lv kd vl S)) (h1 : ∀ c, S c → c < cap ∧ ¬ re c = 0) (h2 : ∀ c, c < cap → ¬ re c = 0 → xm_Lv kd vl S c)
    (h3 : ∀ p, p < 32 → p / 2 < cap → ¬ re (p / 2) = 0 → kd p = 2 → ¬ re (vl p).toNatClampNeg = 0) : ∀ c, c < cap → (¬ re c = 0 ↔ xm_Lv kd vl S c) := by
  intro c hcc
  refine ⟨h2 c hcc, fun h => ?_⟩
  refine (h (fun x => x < cap ∧ ¬ re x = 0) h1 ?_).2
  intro p hp hP hk
  refine ⟨?_, h3 p hp hP.1 hP.2 hk⟩
  obtain ⟨d, hd, ed, _⟩ := xm_LK2 K hp (h2 _ hP.1 hP.2) hk
  show (vl p).toNatClampNeg < cap
  rw [ed, xh_cl (by omega)]
  exact hd
theorem xw_clear {post : SX → Prop} (hc : cap ≤ 16) (hp : ∀ re' : Nat → Int32, (∀ c, c < cap → re' c = 0) → post (nI cap, nI rc, 0, st, tg, kd, vl, rt, re', qu, bl, nb)) : wpX_clearTrace post (nI cap, nI rc, ql, st, tg, kd, vl, rt, re, qu, bl, nb) := by
  unfold wpX_clearTrace
  dsimp only
  refine loop_0 (fun n i (s : Nat → Int32) => wX_clearTrace_7 post (nI cap) (nI rc) 0 n (nI i) st tg kd vl rt s qu bl nb) (fun i s => ∀ c, c < i → s c = 0) cap re ?_ ?_ ?_
  · intro c h; omega
  · intro n s h
    exact br_t (Int32.le_refl _) (hp s h)
  · intro n i s hi h k
    refine br_f (nI_ge hi (by omega)) ⟨xh_in (by omega) (by omega), xh_u0 i (nm_r (nI_1 i) (k _ ?_))⟩
    intro c hc'
    by_cases e : c = i
    · subst e; exact pk_us
    · rw [pk_un e]; exact h c (by omega)
theorem xw_visit {post : SX → Prop} {q h c : Nat} (hc : cap ≤ 16) (T : xm_TI cap kd vl L q h re qu) (hcc : c < cap) (hL : L c)
    (hp : ∀ (q' : Nat) (re' qu' : Nat → Int32), q ≤ q' → xm_TI cap kd vl L q' h re' qu' → (∀ x, ¬ re x = 0 → ¬ re' x = 0) → (∀ i, i < q → qu' i = qu i) → ¬ re' c = 0 → post (nI cap, nI rc, nI q', st, tg, kd, vl, rt, re', qu', bl, nb)) :
    wpX_visit post (nI cap, nI rc, nI q, st, tg, kd, vl, rt, re, qu, bl, nb) (nI c) := by
  by_cases h0 : re c = 0
  · obtain ⟨hq, T'⟩ := xm_TI_v T hcc hL h0
    refine br_f (nI_pos (by omega)) ⟨xh_in (by omega) (by omega), br_t (by rw [xh_cl (by omega)]; exact h0) ⟨xh_in (by omega) (by omega), xh_u1 c ⟨xh_in (by omega) (by omega), xh_up q (nm_r (nI_1 q) ?_)⟩⟩⟩
    exact hp (q + 1) _ _ (by omega) T' xh_umono (fun i hi => pk_un (by omega)) (by rw [pk_us]; exact xh_10)
  · exact br_f (nI_pos (by omega)) ⟨xh_in (by omega) (by omega), br_f (by rw [xh_cl (by omega)]; exact h0) (hp q re qu (Nat.le_refl _) T (fun _ z => z) (fun _ _ => rfl) h0)⟩
theorem xw_visitField {post : SX → Prop} {q h p : Nat} (hc : cap ≤ 16) (T : xm_TI cap kd vl L q h re qu) (hp32 : p < 32) (hT : kd p = 2 → ∃ c, c < cap ∧ vl p = nI c ∧ L c)
    (hp : ∀ (q' : Nat) (re' qu' : Nat → Int32), q ≤ q' → xm_TI cap kd vl L q' h re' qu' → (∀ x, ¬ re x = 0 → ¬ re' x = 0) → (∀ i, i < q → qu' i = qu i) → (kd p = 2 → ¬ re' (vl p).toNatClampNeg = 0) → post (nI cap, nI rc, nI q', st, tg, kd, vl, rt, re', qu', bl, nb)) :
    wpX_visitField post (nI cap, nI rc, nI q, st, tg, kd, vl, rt, re, qu, bl, nb) (nI p) := by
  unfold wpX_visitField
  dsimp only
  rw [xh_cl (show p < 1000 by omega)]
  by_cases hk : kd p = 2
  · obtain ⟨c, hcc, ev, hL⟩ := hT hk
    refine ⟨xh_in hp32 (by omega), br_t hk ⟨xh_in hp32 (by omega), ?_⟩⟩
    rw [ev]
    refine xw_visit hc T hcc hL ?_
    intro q' re' qu' a1 a2 a3 a4 a5
    exact hp q' re' qu' a1 a2 a3 a4 (fun _ => by rw [ev, xh_cl (by omega)]; exact a5)
  · exact ⟨xh_in hp32 (by omega), br_f hk (hp q re qu (Nat.le_refl _) T (fun _ z => z) (fun _ _ => rfl) (fun z => absurd z hk))⟩
theorem xw_trace {post : SX → Prop} {q : Nat} (hc : cap ≤ 16) (K : xm_LK cap st kd vl L) (T : xm_TI cap kd vl L q 0 re qu)
    (hp : ∀ (q' : Int32) (re' qu' : Nat → Int32), (∀ x, ¬ re x = 0 → ¬ re' x = 0) → (∀ c, c < cap → ¬ re' c = 0 → L c) →
      (∀ p, p < 32 → p / 2 < cap → ¬ re' (p / 2) = 0 → kd p = 2 → ¬ re' (vl p).toNatClampNeg = 0) → post (nI cap, nI rc, q', st, tg, kd, vl, rt, re', qu', bl, nb)) :
    wpX_trace post (nI cap, nI rc, nI q, st, tg, kd, vl, rt, re, qu, bl, nb) := by
  unfold wpX_trace
  dsimp only
  refine loop_0 (fun n i (s : Nat × (Nat → Int32) × (Nat → Int32)) => wX_trace_2 post n (nI i) (nI cap) (nI rc) (nI s.1) st tg kd vl rt s.2.1 s.2.2 bl nb)
    (fun i s => xm_TI cap kd vl L s.1 i s.2.1 s.2.2 ∧ ∀ x, ¬ re x = 0 → ¬ s.2.1 x = 0) cap (q, re, qu) ⟨T, fun _ z => z⟩ ?_ ?_
  · intro n s h
    obtain ⟨q1, re1, qu1⟩ := s
    obtain ⟨T1, m1⟩ := h
    refine br_t (Int32.le_refl _) (hp _ _ _ m1 (fun c hcc hr => (T1.2.2.2.1 c hcc hr).1) (xm_TI_x T1 ?_))
    rw [T1.1]
    exact cz_le _ _
  · intro n i s hi h k
    obtain ⟨q1, re1, qu1⟩ := s
    obtain ⟨T1, m1⟩ := h
    dsimp only at T1 m1
    have hq16 : q1 ≤ cap := by rw [T1.1]; exact cz_le _ _
    by_cases hqi : q1 ≤ i
    · exact br_f (nI_ge hi (by omega)) (br_t (nI_le hqi (by omega)) (hp _ _ _ m1 (fun c hcc hr => (T1.2.2.2.1 c hcc hr).1) (xm_TI_x T1 hqi)))
    · have hiq : i < q1 := by omega
      obtain ⟨c, hcc, ec, rc1⟩ := T1.2.2.1 i hiq
      have hL : L c := (T1.2.2.2.1 c hcc rc1).1
      refine br_f (nI_ge hi (by omega)) (br_f (nI_ge hiq (by omega)) ⟨xh_in (by omega) (by omega), nm_r (e' := nI c) (by rw [xh_cl (by omega)]; exact ec) ?_⟩)
      rw [xh_2 c, nI_1 (2 * c)]
      refine xw_visitField hc T1 (by omega) (fun hk => xm_LK2 K (by omega) (by rw [xm_h0]; exact hL) hk) ?_
      intro q2 re2 qu2 a1 T2 a3 a4 a5
      dsimp only
      refine xw_visitField hc T2 (by omega) (fun hk => xm_LK2 K (by omega) (by rw [xm_h1]; exact hL) hk) ?_
      intro q3 re3 qu3 b1 T3 b3 b4 b5
      dsimp only
      refine nm_r (nI_1 i) (k (q3, re3, qu3) ⟨xm_TI_h hc T3 (by omega) hcc ?_ ?_, fun x hx => b3 x (a3 x (m1 x hx))⟩)
      · dsimp only
        rw [b4 i (by omega), a4 i hiq]
        exact ec
      · intro p hp32 ep hk
        rcases (by omega : p = 2 * c ∨ p = 2 * c + 1) with e | e
        · subst e; exact b3 _ (a5 hk)
        · subst e; exact b5 hk
theorem xw_markLive {post : SX → Prop} (hc : cap ≤ 16) (hr : rc ≤ 8) (H : xm_HK cap st kd vl) (HR : xm_RK cap rc st rt)
    (hp : ∀ (q' : Int32) (re' qu' : Nat → Int32), (∀ c, c < cap → (¬ re' c = 0 ↔ xm_Lv kd vl (xm_Rt rt) c)) → post (nI cap, nI rc, q', st, tg, kd, vl, rt, re', qu', bl, nb)) : wpX_markLive post (nI cap, nI rc, ql, st, tg, kd, vl, rt, re, qu, bl, nb) := by
  have K := xm_LK_of hc H (xm_Rt_of hc HR)
  unfold wpX_markLive
  dsimp only
  refine xw_clear hc ?_
  intro re1 h1
  dsimp only
  refine loop_0 (fun n i (s : Nat × (Nat → Int32) × (Nat → Int32)) => wX_markLive_6 post n (nI i) (nI cap) (nI rc) (nI s.1) st tg kd vl rt s.2.1 s.2.2 bl nb)
    (fun i s => xm_TI cap kd vl (xm_Lv kd vl (xm_Rt rt)) s.1 0 s.2.1 s.2.2 ∧ ∀ r, r < i → ∀ c, c < cap → rt r = nI c → ¬ s.2.1 c = 0) rc (0, re1, qu) ?_ ?_ ?_
  · refine ⟨⟨?_, by omega, fun i hi => absurd hi (by omega), fun c hcc hn => absurd (h1 c hcc) hn, fun i hi => absurd hi (by omega)⟩, fun r hr => absurd hr (by omega)⟩
    exact (cz_zero (fun a ha z => z (h1 a ha))).symm
  · intro n s h
    obtain ⟨q1, re1, qu1⟩ := s
    obtain ⟨T1, m1⟩ := h
    refine br_t (Int32.le_refl _) ?_
    refine xw_trace hc K T1 ?_
    intro q2 re2 qu2 a1 a2 a3
    refine hp q2 re2 qu2 (xm_Lv_iff hc K ?_ a2 a3)
    intro c hS
    have hcc := (xm_Rt_of hc HR c hS).1
    refine ⟨hcc, a1 c ?_⟩
    obtain ⟨_, r, hr8, er⟩ := hS
    rcases HR r hr8 with z | ⟨hrc, _⟩
    · rw [er] at z
      exact absurd z (xh_nm (by omega))
    · exact m1 r hrc c hcc er
  · intro n i s hi h k
    obtain ⟨q1, re1, qu1⟩ := s
    obtain ⟨T1, m1⟩ := h
    dsimp only at T1 m1
    refine br_f (nI_ge hi (by omega)) ⟨xh_in (by omega) (by omega), ?_⟩
    rw [xh_cl (show i < 1000 by omega)]
    rcases HR i (by omega) with z | ⟨_, c, hcc, ec, sc⟩
    · rw [z]
      refine br_t xh_m1 (nm_r (nI_1 i) (k (q1, re1, qu1) ⟨T1, ?_⟩))
      intro r hri c hcc er
      rcases (by omega : r < i ∨ r = i) with e | e
      · exact m1 r e c hcc er
      · subst e
        rw [z] at er
        exact absurd er.symm (xh_nm (by omega))
    · rw [ec]
      refine xw_visit hc T1 hcc (xm_Lv_s ⟨by omega, i, by omega, ec⟩) ?_
      intro q2 re2 qu2 a1 T2 a3 a4 a5
      dsimp only
      refine nm_r (nI_1 i) (k (q2, re2, qu2) ⟨T2, ?_⟩)
      intro r hri d hdc er
      rcases (by omega : r < i ∨ r = i) with e | e
      · exact a3 d (m1 r e d hdc er)
      · subst e
        have : d = c := xh_inj (er.symm.trans ec) (by omega) (by omega)
        subst this
        exact a5
end
end
section
/-! part 05: the component's partition of the live cells -/
section
variable {cap rc : Nat} {ql : Int32} {st tg kd vl rt re qu bl nb : Nat → Int32} {L : Nat → Prop}
theorem xw_sc {post : Int32 → Prop} {p q : Nat} (hp : p < 32) (hq : q < 32) (h1 : xm_SC kd vl p q → post 1) (h0 : ¬ xm_SC kd vl p q → post 0) : wpX_sameContent post (nI cap, nI rc, ql, st, tg, kd, vl, rt, re, qu, bl, nb) (nI p) (nI q) := by
  unfold wpX_sameContent
  dsimp only
  rw [xh_cl (show p < 1000 by omega), xh_cl (show q < 1000 by omega)]
  have ip : vp_in (nI p) 32 := xh_in hp (by omega)
  have iq : vp_in (nI q) 32 := xh_in hq (by omega)
  exact ⟨ip, iq, br_c (fun e => ⟨ip, br_c (fun e1 => ⟨ip, iq, br_c (fun ev => h1 ⟨e, fun _ => ev⟩) (fun nv => h0 (fun z => nv (z.2 e1)))⟩) (fun n1 => h1 ⟨e, fun z => absurd z n1⟩)⟩) (fun ne => h0 (fun z => ne z.1))⟩
theorem xw_ll {post : Int32 → Prop} {x y : Nat} (hx : x < 16) (hy : y < 16) (h1 : xm_LL st tg kd vl x y → post 1) (h0 : ¬ xm_LL st tg kd vl x y → post 0) : wpX_looksLike post (nI cap, nI rc, ql, st, tg, kd, vl, rt, re, qu, bl, nb) (nI x) (nI y) := by
  unfold wpX_looksLike
  dsimp only
  rw [xh_cl (show x < 1000 by omega), xh_cl (show y < 1000 by omega), xh_2 x, xh_2 y, nI_1 (2 * x), nI_1 (2 * y)]
  have ix : vp_in (nI x) 16 := xh_in hx (by omega)
  have iy : vp_in (nI y) 16 := xh_in hy (by omega)
  refine ⟨ix, br_c (fun s1 => ⟨iy, br_c (fun s2 => ⟨ix, iy, br_c (fun t => ?_) (fun nt => h0 (fun z => nt z.2.2.1))⟩) (fun n => h0 (fun z => n z.2.1))⟩) (fun n => h0 (fun z => n z.1))⟩
  refine xw_sc (by omega) (by omega) (fun c1 => ?_) (fun n1 => br_t rfl (h0 (fun z => n1 z.2.2.2.1)))
  refine br_f xh_10 ?_
  exact xw_sc (by omega) (by omega) (fun c2 => br_f xh_10 (h1 ⟨s1, s2, t, c1, c2⟩)) (fun n2 => br_t rfl (h0 (fun z => n2 z.2.2.2.2)))
theorem xw_fl {post : Int32 → Prop} {x : Nat} (hc : cap ≤ 16) (HL : ∀ c, c < cap → (¬ re c = 0 ↔ L c)) (hx : x < cap)
    (hp : ∀ d, d ≤ x → (d = x ∨ (L d ∧ xm_LL st tg kd vl x d)) → (∀ y, y < d → L y → ¬ xm_LL st tg kd vl x y) → post (nI d)) : wpX_firstLookalike post (nI cap, nI rc, ql, st, tg, kd, vl, rt, re, qu, bl, nb) (nI x) := by
  unfold wpX_firstLookalike
  dsimp only
  refine loop_0 (fun n i (_ : Unit) => wX_firstLookalike_2 post (nI x) (nI cap) (nI rc) ql st tg kd vl rt re qu bl nb n (nI i)) (fun i _ => ∀ y, y < i → L y → ¬ xm_LL st tg kd vl x y) x () ?_ ?_ ?_
  · intro y h; omega
  · intro n _ h
    exact br_t (Int32.le_refl _) (hp x (Nat.le_refl _) (Or.inl rfl) h)
  · intro n i _ hi h k
    refine br_f (nI_ge hi (by omega)) ⟨xh_in (by omega) (by omega), ?_⟩
    rw [xh_cl (show i < 1000 by omega)]
    by_cases hr : re i = 0
    · exact br_t hr (nm_r (nI_1 i) (k () (lt_s h (fun z => absurd hr ((HL i (by omega)).mpr z)))))
    · refine br_f hr (xw_ll (by omega) (by omega) (fun hl => br_f xh_10 (hp i (by omega) (Or.inr ⟨(HL i (by omega)).mp hr, hl⟩) h)) (fun hn => br_t rfl (nm_r (nI_1 i) (k () (lt_s h (fun _ => hn))))))
theorem xw_tgt {post : Int32 → Prop} {p q : Nat} (hp : p < 32) (hq : q < 32) (vp : kd p = 2 → ∃ c, c < 16 ∧ vl p = nI c) (vq : kd q = 2 → ∃ c, c < 16 ∧ vl q = nI c)
    (h1 : xm_SP kd vl (fun a b => bl a = bl b) p q → post 1) (h0 : ¬ xm_SP kd vl (fun a b => bl a = bl b) p q → post 0) : wpX_sameTarget post (nI cap, nI rc, ql, st, tg, kd, vl, rt, re, qu, bl, nb) (nI p) (nI q) := by
  unfold wpX_sameTarget
  dsimp only
  rw [xh_cl (show p < 1000 by omega), xh_cl (show q < 1000 by omega)]
  have ip : vp_in (nI p) 32 := xh_in hp (by omega)
  have iq : vp_in (nI q) 32 := xh_in hq (by omega)
  refine ⟨ip, br_c (fun kp => ⟨iq, br_c (fun kq => ?_) (fun nq => ?_)⟩) (fun np => ?_)⟩
  · obtain ⟨c, hc, ec⟩ := vp kp
    obtain ⟨d, hd, ed⟩ := vq kq
    exact ⟨ip, by rw [ec]; exact xh_in hc (by omega), iq, by rw [ed]; exact xh_in hd (by omega), br_c (fun e => h1 ⟨kp.trans kq.symm, fun _ => e⟩) (fun n => h0 (fun z => n (z.2 kp)))⟩
  · unfold wX_sameTarget_20
    rw [xh_cl (show p < 1000 by omega), xh_cl (show q < 1000 by omega)]
    exact ⟨ip, iq, br_c (fun e => absurd (e.symm.trans kp) nq) (fun n => h0 (fun z => n z.1))⟩
  · unfold wX_sameTarget_20
    rw [xh_cl (show p < 1000 by omega), xh_cl (show q < 1000 by omega)]
    exact ⟨ip, iq, br_c (fun e => h1 ⟨e, fun z => absurd z np⟩) (fun n => h0 (fun z => n z.1))⟩
theorem xw_tgts {post : Int32 → Prop} {x y : Nat} (hx : x < 16) (hy : y < 16) (vx : ∀ p, p < 32 → p / 2 = x → kd p = 2 → ∃ c, c < 16 ∧ vl p = nI c) (vy : ∀ p, p < 32 → p / 2 = y → kd p = 2 → ∃ c, c < 16 ∧ vl p = nI c)
    (h1 : xm_ST kd vl (fun a b => bl a = bl b) x y → post 1) (h0 : ¬ xm_ST kd vl (fun a b => bl a = bl b) x y → post 0) : wpX_sameTargets post (nI cap, nI rc, ql, st, tg, kd, vl, rt, re, qu, bl, nb) (nI x) (nI y) := by
  unfold wpX_sameTargets
  dsimp only
  rw [xh_2 x, xh_2 y, nI_1 (2 * x), nI_1 (2 * y)]
  refine xw_tgt (by omega) (by omega) (vx _ (by omega) (xm_h0 x)) (vy _ (by omega) (xm_h0 y)) (fun c1 => ?_) (fun n1 => br_t rfl (h0 (fun z => n1 z.1)))
  refine br_f xh_10 ?_
  exact xw_tgt (by omega) (by omega) (vx _ (by omega) (xm_h1 x)) (vy _ (by omega) (xm_h1 y)) (fun c2 => br_f xh_10 (h1 ⟨c1, c2⟩)) (fun n2 => br_t rfl (h0 (fun z => n2 z.2)))
theorem xm_LKv (hc : cap ≤ 16) (K : xm_LK cap st kd vl L) {x : Nat} (hx : L x) : ∀ p, p < 32 → p / 2 = x → kd p = 2 → ∃ c, c < 16 ∧ vl p = nI c := by
  intro p hp e hk
  subst e
  obtain ⟨c, hcc, ec, _⟩ := xm_LK2 K hp hx hk
  exact ⟨c, by omega, ec⟩
theorem xw_fp {post : Int32 → Prop} {x : Nat} (hc : cap ≤ 16) (HL : ∀ c, c < cap → (¬ re c = 0 ↔ L c)) (K : xm_LK cap st kd vl L) (hx : x < cap) (hLx : L x)
    (hp : ∀ d, d ≤ x → (d = x ∨ (L d ∧ bl d = bl x ∧ xm_ST kd vl (fun a b => bl a = bl b) x d)) → (∀ y, y < d → L y → bl y = bl x → ¬ xm_ST kd vl (fun a b => bl a = bl b) x y) → post (nI d)) :
    wpX_firstPeer post (nI cap, nI rc, ql, st, tg, kd, vl, rt, re, qu, bl, nb) (nI x) := by
  unfold wpX_firstPeer
  dsimp only
  refine loop_0 (fun n i (_ : Unit) => wX_firstPeer_2 post (nI x) (nI cap) (nI rc) ql st tg kd vl rt re qu bl nb n (nI i)) (fun i _ => ∀ y, y < i → L y → bl y = bl x → ¬ xm_ST kd vl (fun a b => bl a = bl b) x y) x () ?_ ?_ ?_
  · intro y h; omega
  · intro n _ h
    exact br_t (Int32.le_refl _) (hp x (Nat.le_refl _) (Or.inl rfl) h)
  · intro n i _ hi h k
    refine br_f (nI_ge hi (by omega)) ⟨xh_in (by omega) (by omega), ?_⟩
    rw [xh_cl (show i < 1000 by omega), xh_cl (show x < 1000 by omega)]
    by_cases hr : re i = 0
    · exact br_t hr (nm_r (nI_1 i) (k () (lt_s h (fun z => absurd hr ((HL i (by omega)).mpr z)))))
    · have hLi := (HL i (by omega)).mp hr
      refine br_f hr ⟨xh_in (by omega) (by omega), xh_in (by omega) (by omega), br_c (fun e => ?_) (fun n => nm_r (nI_1 i) (k () (lt_s h (fun _ z => absurd z n))))⟩
      exact xw_tgts (by omega) (by omega) (xm_LKv hc K hLx) (xm_LKv hc K hLi) (fun hs => br_f xh_10 (hp i (by omega) (Or.inr ⟨hLi, e, hs⟩) h)) (fun hn => br_t rfl (nm_r (nI_1 i) (k () (lt_s h (fun _ _ => hn)))))
theorem xm_RO_u {i : Nat} {s : Nat → Int32} {w : Int32} (O : xm_RO i kd vl L bl s) (h0 : ¬ L i → w = nI i)
    (h1 : L i → ∃ d, d ≤ i ∧ w = nI d ∧ (d = i ∨ (L d ∧ bl d = bl i ∧ xm_ST kd vl (fun a b => bl a = bl b) i d)) ∧ ∀ y, y < d → L y → bl y = bl i → ¬ xm_ST kd vl (fun a b => bl a = bl b) i y) : xm_RO (i + 1) kd vl L bl (upd s i w) := by
  refine ⟨fun c hc hn => ?_, fun c hc hL => ?_⟩
  · by_cases e : c = i
    · subst e; rw [pk_us]; exact h0 hn
    · rw [pk_un e]; exact O.1 c (by omega) hn
  · by_cases e : c = i
    · subst e; rw [pk_us]; exact h1 hL
    · rw [pk_un e]; exact O.2 c (by omega) hL
theorem xm_RO_e {s b : Nat → Int32} (h : ∀ c, c < cap → b c = s c) (O : xm_RO cap kd vl L bl s) : xm_RO cap kd vl L bl b := by
  refine ⟨fun c hc hn => ?_, fun c hc hL => ?_⟩
  · rw [h c hc]; exact O.1 c hc hn
  · rw [h c hc]; exact O.2 c hc hL
theorem xw_refine {post : Int32 → SX → Prop} (hc : cap ≤ 16) (HL : ∀ c, c < cap → (¬ re c = 0 ↔ L c)) (K : xm_LK cap st kd vl L)
    (hp : ∀ (b : Int32) (bl' nb' : Nat → Int32), xm_RO cap kd vl L bl bl' → ((b = 0 ∧ ∀ c, c < cap → bl' c = bl c) ∨ (b = 1 ∧ ∃ c, c < cap ∧ ¬ bl' c = bl c)) → post b (nI cap, nI rc, ql, st, tg, kd, vl, rt, re, qu, bl', nb')) : wpX_refine post (nI cap, nI rc, ql, st, tg, kd, vl, rt, re, qu, bl, nb) := by
  unfold wpX_refine
  dsimp only
  refine loop_0 (fun n i (s : Nat → Int32) => wX_refine_2 post (nI cap) (nI rc) ql n (nI i) st tg kd vl rt re qu bl s) (fun i s => xm_RO i kd vl L bl s) cap nb ?_ ?_ ?_
  · exact ⟨fun c h => absurd h (by omega), fun c h => absurd h (by omega)⟩
  · intro n s O
    refine br_t (Int32.le_refl _) ?_
    refine loop_0 (fun n i (t : Int32 × (Nat → Int32)) => wX_refine_44 post (nI cap) (nI rc) ql n t.1 (nI i) st tg kd vl rt re qu t.2 s)
      (fun i t => (∀ c, c < i → t.2 c = s c) ∧ (∀ c, i ≤ c → t.2 c = bl c) ∧ ((t.1 = 0 ∧ ∀ c, c < i → s c = bl c) ∨ (t.1 = 1 ∧ ∃ c, c < i ∧ ¬ s c = bl c))) cap (0, bl) ?_ ?_ ?_
    · exact ⟨fun c h => absurd h (by omega), fun c _ => rfl, Or.inl ⟨rfl, fun c h => absurd h (by omega)⟩⟩
    · intro n t h
      obtain ⟨b, bl1⟩ := t
      obtain ⟨h1, h2, h3⟩ := h
      dsimp only at h1 h2 h3
      refine br_t (Int32.le_refl _) ⟨?_, hp b bl1 s (xm_RO_e h1 O) ?_⟩
      · rcases h3 with ⟨e, _⟩ | ⟨e, _⟩
        · subst e; exact narrow_b0
        · subst e; exact narrow_b1
      · rcases h3 with ⟨e, g⟩ | ⟨e, c, hcc, g⟩
        · exact Or.inl ⟨e, fun c hcc => (h1 c hcc).trans (g c hcc)⟩
        · exact Or.inr ⟨e, c, hcc, fun z => g ((h1 c hcc).symm.trans z)⟩
    · intro n i t hi h k
      obtain ⟨b, bl1⟩ := t
      obtain ⟨h1, h2, h3⟩ := h
      dsimp only at h1 h2 h3
      have ii : vp_in (nI i) 16 := xh_in (by omega) (by omega)
      refine br_f (nI_ge hi (by omega)) ⟨ii, ii, ?_⟩
      rw [xh_cl (show i < 1000 by omega)]
      by_cases e : bl1 i = s i
      · refine br_t e (nm_r (nI_1 i) (k (b, bl1) ⟨lt_s h1 e, fun c hcc => h2 c (by omega), ?_⟩))
        rcases h3 with ⟨e0, g⟩ | ⟨e0, c, hcc, g⟩
        · exact Or.inl ⟨e0, lt_s g (e.symm.trans (h2 i (Nat.le_refl _)))⟩
        · exact Or.inr ⟨e0, c, by omega, g⟩
      · refine br_f e ⟨ii, ii, nm_e (nm_r (nI_1 i) (k (1, upd bl1 i (s i)) ⟨?_, ?_, Or.inr ⟨rfl, i, by omega, fun z => e ((h2 i (Nat.le_refl _)).trans z.symm)⟩⟩))⟩
        · exact lt_s (fun c hcc => by show upd bl1 i (s i) c = s c; rw [pk_un (by omega)]; exact h1 c hcc) pk_us
        · intro c hcc
          show upd bl1 i (s i) c = bl c
          rw [pk_un (by omega)]
          exact h2 c (by omega)
  · intro n i s hi O k
    have ii : vp_in (nI i) 16 := xh_in (by omega) (by omega)
    refine br_f (nI_ge hi (by omega)) ⟨ii, ?_⟩
    rw [xh_cl (show i < 1000 by omega)]
    by_cases hr : re i = 0
    · exact br_t hr ⟨ii, nm_e (nm_r (nI_1 i) (k _ (xm_RO_u O (fun _ => rfl) (fun z => absurd hr ((HL i hi).mpr z)))))⟩
    · have hLi := (HL i hi).mp hr
      refine br_f hr (xw_fp hc HL K hi hLi ?_)
      intro d hd h1 h2
      exact ⟨ii, nm_e (nm_r (nI_1 i) (k _ (xm_RO_u O (fun z => absurd hLi z) (fun _ => ⟨d, hd, rfl, h1, h2⟩))))⟩
theorem xm_LO_u {i : Nat} {s : Nat → Int32} {w : Int32} (O : xm_LO i st tg kd vl L s) (h0 : ¬ L i → w = nI i)
    (h1 : L i → ∃ d, d ≤ i ∧ w = nI d ∧ (d = i ∨ (L d ∧ xm_LL st tg kd vl i d)) ∧ ∀ y, y < d → L y → ¬ xm_LL st tg kd vl i y) : xm_LO (i + 1) st tg kd vl L (upd s i w) := by
  refine ⟨fun c hc hn => ?_, fun c hc hL => ?_⟩
  · by_cases e : c = i
    · subst e; rw [pk_us]; exact h0 hn
    · rw [pk_un e]; exact O.1 c (by omega) hn
  · by_cases e : c = i
    · subst e; rw [pk_us]; exact h1 hL
    · rw [pk_un e]; exact O.2 c (by omega) hL
theorem xw_part {post : SX → Prop} (hc : cap ≤ 16) (hr : rc ≤ 8) (H : xm_HK cap st kd vl) (HR : xm_RK cap rc st rt)
    (hp : ∀ (q' : Int32) (re' qu' bl' nb' : Nat → Int32), (∀ c, c < cap → (¬ re' c = 0 ↔ xm_Lv kd vl (xm_Rt rt) c)) → xm_PP cap st tg kd vl (xm_Lv kd vl (xm_Rt rt)) bl' → post (nI cap, nI rc, q', st, tg, kd, vl, rt, re', qu', bl', nb')) :
    wpX_partitionLive post (nI cap, nI rc, ql, st, tg, kd, vl, rt, re, qu, bl, nb) := by
  have K := xm_LK_of hc H (xm_Rt_of hc HR)
  unfold wpX_partitionLive
  dsimp only
  refine xw_markLive hc hr H HR ?_
  intro q1 re1 qu1 HL
  dsimp only
  refine loop_0 (fun n i (s : Nat → Int32) => wX_partitionLive_6 post (nI cap) (nI rc) q1 n (nI i) st tg kd vl rt re1 qu1 s nb) (fun i s => xm_LO i st tg kd vl (xm_Lv kd vl (xm_Rt rt)) s) cap bl ?_ ?_ ?_
  · exact ⟨fun c h => absurd h (by omega), fun c h => absurd h (by omega)⟩
  · intro n s O
    refine br_t (Int32.le_refl _) ?_
    refine loop_0 (fun n i (t : Int32 × (Nat → Int32) × (Nat → Int32)) => wX_partitionLive_48 post n t.1 (nI i) (nI cap) (nI rc) q1 st tg kd vl rt re1 qu1 t.2.1 t.2.2)
      (fun i t => xm_PJ cap st tg kd vl (xm_Lv kd vl (xm_Rt rt)) i t.1 t.2.1) cap (1, s, nb) (xm_PJ_0 hc K O) ?_ ?_
    · intro n t P
      obtain ⟨b, bl1, nb1⟩ := t
      exact br_c (fun e => hp q1 re1 qu1 bl1 nb1 HL (xm_PJ_x hc K P (Or.inl e))) (fun _ => br_t (Int32.le_refl _) (hp q1 re1 qu1 bl1 nb1 HL (xm_PJ_x hc K P (Or.inr (Nat.le_refl _)))))
    · intro n i t hi P k
      obtain ⟨b, bl1, nb1⟩ := t
      refine br_c (fun e => hp q1 re1 qu1 bl1 nb1 HL (xm_PJ_x hc K P (Or.inl e))) (fun nz => br_f (nI_ge hi (by omega)) ?_)
      have e1 : b = 1 := by
        obtain ⟨_, _, h⟩ := P
        rcases h with ⟨e, _⟩ | ⟨e, _⟩
        · exact absurd e nz
        · exact e
      subst e1
      refine xw_refine hc HL K ?_
      intro b2 bl2 nb2 O2 hb
      exact nm_r (nI_1 i) (k (b2, bl2, nb2) (xm_PJ_s hc K P O2 hb))
  · intro n i s hi O k
    have ii : vp_in (nI i) 16 := xh_in (by omega) (by omega)
    refine br_f (nI_ge hi (by omega)) ⟨ii, ?_⟩
    rw [xh_cl (show i < 1000 by omega)]
    by_cases hr : re1 i = 0
    · exact br_t hr ⟨ii, nm_e (nm_r (nI_1 i) (k _ (xm_LO_u O (fun _ => rfl) (fun z => absurd hr ((HL i hi).mpr z)))))⟩
    · have hLi := (HL i hi).mp hr
      refine br_f hr (xw_fl hc HL hi ?_)
      intro d hd h1 h2
      exact ⟨ii, nm_e (nm_r (nI_1 i) (k _ (xm_LO_u O (fun z => absurd hLi z) (fun _ => ⟨d, hd, rfl, h1, h2⟩))))⟩
end
end
section
/-! part 06: the reference's live cells and its alike relation -/
theorem xh_g8 : (8 : Int32) ≤ nI 8 := by decide
theorem xh_g16 : (16 : Int32) ≤ nI 16 := by decide
theorem xh_g32 : (32 : Int32) ≤ nI 32 := by decide
theorem xh_g256 : (256 : Int32) ≤ nI 256 := by decide
theorem xh_l8 {i : Nat} (h : i < 8) : ¬ (8 : Int32) ≤ nI i := nI_ge (b := 8) h (by decide)
theorem xh_l16 {i : Nat} (h : i < 16) : ¬ (16 : Int32) ≤ nI i := nI_ge (b := 16) h (by decide)
theorem xh_l32 {i : Nat} (h : i < 32) : ¬ (32 : Int32) ≤ nI i := nI_ge (b := 32) h (by decide)
theorem xh_l256 {i : Nat} (h : i < 256) : ¬ (256 : Int32) ≤ nI i := nI_ge (b := 256) h (by decide)
theorem xh_d20 : ¬ (2 : Int32) = 0 := by decide
theorem xh_d160 : ¬ (16 : Int32) = 0 := by decide
def ym_Cl (kd vl mk : Nat → Int32) : Prop := ∀ p, p < 32 → ¬ mk (p / 2) = 0 → kd p = 2 → ¬ mk (vl p).toNatClampNeg = 0
section
variable {cap rc : Nat} {st tg kd vl rt mk rl : Nat → Int32} {L S : Nat → Prop} {B : Nat → Nat → Prop}
theorem yw_spread {post : SY → Prop} (hc : cap ≤ 16) (K : xm_LK cap st kd vl (xm_Lv kd vl S)) (hS16 : ∀ c, S c → c < 16) (hS : ∀ c, c < 16 → (¬ mk c = 0 ↔ S c))
    (hp : ∀ mk' : Nat → Int32, (∀ c, c < 16 → (¬ mk' c = 0 ↔ xm_Lv kd vl S c)) → post (nI cap, nI rc, rt, st, tg, kd, vl, mk', rl)) : wpY_spread post (nI cap, nI rc, rt, st, tg, kd, vl, mk, rl) := by
  unfold wpY_spread
  dsimp only
  refine loop_0 (fun n i (s : Nat → Int32) => wY_spread_2 post (nI cap) (nI rc) n (nI i) rt st tg kd vl s rl)
    (fun i s => (∀ c, S c → ¬ s c = 0) ∧ (∀ c, c < 16 → ¬ s c = 0 → xm_Lv kd vl S c) ∧ (ym_Cl kd vl s ∨ i ≤ cz_n (fun c => ¬ s c = 0) 16)) 16 mk ?_ ?_ ?_
  · exact ⟨fun c h => (hS c (hS16 c h)).mpr h, fun c h16 h => xm_Lv_s ((hS c h16).mp h), Or.inr (Nat.zero_le _)⟩
  · intro n s h
    obtain ⟨h1, h2, h3⟩ := h
    refine br_t xh_g16 (hp s ?_)
    have hcl : ym_Cl kd vl s := by
      rcases h3 with h3 | h3
      · exact h3
      · intro p hp32 hm hk
        obtain ⟨d, hd, ed, _⟩ := xm_LK2 K hp32 (h2 _ (by omega) hm) hk
        have := cz_all h3 d (by omega)
        rw [ed, xh_cl (by omega)]
        exact this
    intro c hc16
    refine ⟨h2 c hc16, fun hL => ?_⟩
    refine (hL (fun x => x < 16 ∧ ¬ s x = 0) (fun x hx => ⟨hS16 x hx, h1 x hx⟩) ?_).2
    intro p hp32 hP hk
    obtain ⟨d, hd, ed, _⟩ := xm_LK2 K hp32 (h2 _ hP.1 hP.2) hk
    refine ⟨?_, hcl p hp32 hP.2 hk⟩
    show (vl p).toNatClampNeg < 16
    rw [ed, xh_cl (by omega)]
    omega
  · intro n i s hi h k
    obtain ⟨h1, h2, h3⟩ := h
    refine br_f (xh_l16 hi) ?_
    refine loop_0 (fun n' j (t : Nat → Int32) => wY_spread_10 post (wY_spread_2 post (nI cap) (nI rc) n) (nI i) (nI cap) (nI rc) n' (nI j) rt st tg kd vl t rl)
      (fun j t => (∀ c, ¬ s c = 0 → ¬ t c = 0) ∧ (∀ c, c < 16 → ¬ t c = 0 → xm_Lv kd vl S c) ∧ (∀ p, p < j → ¬ s (p / 2) = 0 → kd p = 2 → ¬ t (vl p).toNatClampNeg = 0) ∧ (ym_Cl kd vl s → ∀ c, ¬ t c = 0 → ¬ s c = 0)) 32 s ?_ ?_ ?_
    · exact ⟨fun _ z => z, h2, fun p h => absurd h (by omega), fun _ _ z => z⟩
    · intro n' t g
      obtain ⟨g1, g2, g3, g4⟩ := g
      refine br_t xh_g32 (nm_r (nI_1 i) (k t ⟨fun c hS' => g1 c (h1 c hS'), g2, ?_⟩))
      by_cases hcl : ym_Cl kd vl s
      · exact Or.inl (fun p hp32 hm hk => g1 _ (hcl p hp32 (g4 hcl _ hm) hk))
      · have hi' : i ≤ cz_n (fun c => ¬ s c = 0) 16 := h3.resolve_left hcl
        have hex : ∃ p, p < 32 ∧ ¬ s (p / 2) = 0 ∧ kd p = 2 ∧ s (vl p).toNatClampNeg = 0 := by
          refine Classical.byContradiction fun hno => hcl fun p hp32 hm hk hz => hno ⟨p, hp32, hm, hk, hz⟩
        obtain ⟨p, hp32, hm, hk, hz⟩ := hex
        obtain ⟨d, hd, ed, _⟩ := xm_LK2 K hp32 (h2 _ (by omega) hm) hk
        have hlt : (vl p).toNatClampNeg < 16 := by rw [ed, xh_cl (by omega)]; omega
        have := cz_lt (P := fun c => ¬ s c = 0) (Q := fun c => ¬ t c = 0) (a := (vl p).toNatClampNeg) (fun z => z hz) (g3 p hp32 hm hk) (N := 16) (fun c _ z => g1 c z) hlt
        exact Or.inr (by omega)
    · intro n' j t hj g k'
      obtain ⟨g1, g2, g3, g4⟩ := g
      refine br_f (xh_l32 hj) ?_
      rw [xh_d2 (show j < 1000 by omega)]
      refine ⟨xh_d20, xh_in (by omega) (by omega), ?_⟩
      rw [xh_cl (show j / 2 < 1000 by omega)]
      by_cases ht : t (j / 2) = 0
      · refine br_t ht (nm_r (nI_1 j) (k' t ⟨g1, g2, ?_, g4⟩))
        exact lt_s g3 (fun z => absurd ht (g1 _ z))
      · rw [xh_cl (show j < 1000 by omega)]
        by_cases hk : kd j = 2
        · obtain ⟨d, hd, ed, ld⟩ := xm_LK2 K hj (g2 _ (by omega) ht) hk
          refine br_f ht ⟨xh_in (by omega) (by omega), br_t hk ⟨xh_in (by omega) (by omega), ?_⟩⟩
          rw [ed]
          refine ⟨xh_in (by omega) (by omega), xh_u1 d (nm_r (nI_1 j) (k' (upd t d 1) ⟨fun c z => xh_umono c (g1 c z), ?_, ?_, ?_⟩))⟩
          · intro c h16 hz
            by_cases e : c = d
            · subst e; exact ld
            · rw [pk_un e] at hz; exact g2 c h16 hz
          · refine lt_s (fun p hpj z w => xh_umono _ (g3 p hpj z w)) (fun _ _ => ?_)
            rw [ed, xh_cl (by omega), pk_us]
            exact xh_10
          · intro hcl c hz
            by_cases e : c = d
            · subst e
              have := hcl j hj (g4 hcl _ ht) hk
              rw [ed, xh_cl (by omega)] at this
              exact this
            · rw [pk_un e] at hz; exact g4 hcl c hz
        · refine br_f ht ⟨xh_in (by omega) (by omega), br_f hk (nm_r (nI_1 j) (k' t ⟨g1, g2, ?_, g4⟩))⟩
          exact lt_s g3 (fun _ z => absurd z hk)
theorem yw_live {post : SY → Prop} (hc : cap ≤ 16) (H : xm_HK cap st kd vl) (HR : xm_RK cap rc st rt)
    (hp : ∀ mk' : Nat → Int32, (∀ c, c < 16 → (¬ mk' c = 0 ↔ xm_Lv kd vl (xm_Rt rt) c)) → post (nI cap, nI rc, rt, st, tg, kd, vl, mk', rl)) : wpY_findLive post (nI cap, nI rc, rt, st, tg, kd, vl, mk, rl) := by
  have K := xm_LK_of hc H (xm_Rt_of hc HR)
  unfold wpY_findLive
  dsimp only
  refine loop_0 (fun n i (s : Nat → Int32) => wY_findLive_2 post (nI cap) (nI rc) n (nI i) rt st tg kd vl s rl) (fun i s => ∀ c, c < i → s c = 0) 16 mk ?_ ?_ ?_
  · intro c h; omega
  · intro n s h
    refine br_t xh_g16 ?_
    refine loop_0 (fun n i (t : Nat → Int32) => wY_findLive_23 post (nI cap) (nI rc) n (nI i) rt st tg kd vl t rl) (fun i t => ∀ c, c < 16 → (¬ t c = 0 ↔ ∃ r, r < i ∧ rt r = nI c)) 8 s ?_ ?_ ?_
    · intro c hc16
      exact ⟨fun z => absurd (h c hc16) z, fun ⟨r, hr, _⟩ => absurd hr (by omega)⟩
    · intro n t g
      refine br_t xh_g8 ?_
      refine yw_spread hc K (fun c z => z.1) (fun c hc16 => ?_) hp
      exact ⟨fun z => ⟨hc16, (g c hc16).mp z⟩, fun z => (g c hc16).mpr z.2⟩
    · intro n i t hi g k
      refine br_f (xh_l8 hi) ⟨xh_in hi (by omega), ?_⟩
      rw [xh_cl (show i < 1000 by omega)]
      rcases HR i hi with z | ⟨_, d, hd, ed, _⟩
      · rw [z]
        refine br_t xh_m1 (nm_r (nI_1 i) (k t ?_))
        intro c hc16
        refine (g c hc16).trans ⟨fun ⟨r, hr, er⟩ => ⟨r, by omega, er⟩, fun ⟨r, hr, er⟩ => ?_⟩
        rcases (by omega : r < i ∨ r = i) with e | e
        · exact ⟨r, e, er⟩
        · subst e
          rw [z] at er
          exact absurd er.symm (xh_nm (by omega))
      · rw [ed]
        refine br_f (nI_pos (by omega)) ⟨xh_in hi (by omega), xh_in (by omega) (by omega), xh_u1 d (nm_r (nI_1 i) (k (upd t d 1) ?_))⟩
        intro c hc16
        by_cases e : c = d
        · subst e
          rw [pk_us]
          exact ⟨fun _ => ⟨i, by omega, ed⟩, fun _ => xh_10⟩
        · rw [pk_un e]
          refine (g c hc16).trans ⟨fun ⟨r, hr, er⟩ => ⟨r, by omega, er⟩, fun ⟨r, hr, er⟩ => ?_⟩
          rcases (by omega : r < i ∨ r = i) with e' | e'
          · exact ⟨r, e', er⟩
          · subst e'
            exact absurd (xh_inj (er.symm.trans ed) (by omega) (by omega)) e
  · intro n i s hi h k
    refine br_f (xh_l16 hi) ⟨xh_in hi (by omega), xh_u0 i (nm_r (nI_1 i) (k _ ?_))⟩
    exact lt_s (fun c hc' => by rw [pk_un (by omega)]; exact h c hc') pk_us
/-! holds, findAlike -/
theorem xm_HB16 {R R' : Nat → Nat → Prop} (hc : cap ≤ 16) (H : xm_HK cap st kd vl) {x y : Nat} (hx : x < 16) (hy : y < 16) (h : ∀ a b, a < 16 → b < 16 → R a b → R' a b) (hb : xm_HB st tg kd vl R x y) : xm_HB st tg kd vl R' x y := by
  rcases hb with q | ⟨l, t1, t2⟩
  · exact Or.inl q
  · have key : ∀ p q, p < 32 → q < 32 → ¬ st (p / 2) = 0 → ¬ st (q / 2) = 0 → kd p = kd q → xm_TP kd vl R p q → xm_TP kd vl R' p q := by
      intro p q hp hq sp sq e t h2
      have r := t h2
      obtain ⟨c, hcc, ec, _⟩ := xm_HK2 H hp sp h2
      obtain ⟨d, hdc, ed, _⟩ := xm_HK2 H hq sq (e.symm.trans h2)
      rw [ec, ed, xh_cl (by omega), xh_cl (by omega)] at r ⊢
      exact h c d (by omega) (by omega) r
    have nx : ¬ st x = 0 := fun z => xm_n02 z l.1
    have ny : ¬ st y = 0 := fun z => xm_n02 z l.2.1
    exact Or.inr ⟨l, key _ _ (by omega) (by omega) (by rw [xm_h0]; exact nx) (by rw [xm_h0]; exact ny) l.2.2.2.1.1 t1, key _ _ (by omega) (by omega) (by rw [xm_h1]; exact nx) (by rw [xm_h1]; exact ny) l.2.2.2.2.1 t2⟩
theorem yw_h114 {post J : Int32 → Prop} {x1 x2 : Int32} {p q f : Nat} (hc : cap ≤ 16) (H : xm_HK cap st kd vl) (hp : p < 32) (hq : q < 32) (sp : ¬ st (p / 2) = 0) (sq : ¬ st (q / 2) = 0) (hsc : xm_SC kd vl p q)
    (hJ : xm_TP kd vl (fun a b => ¬ rl (16 * a + b) = 0) p q → J (nI (f + 1))) (h0 : ¬ xm_TP kd vl (fun a b => ¬ rl (16 * a + b) = 0) p q → post 0) : wY_holds_114 post J x1 x2 (nI f) (nI p) (nI q) (nI cap) (nI rc) rt st tg kd vl mk rl := by
  have ip : vp_in (nI p) 32 := xh_in hp (by omega)
  have iq : vp_in (nI q) 32 := xh_in hq (by omega)
  unfold wY_holds_114
  rw [xh_cl (show p < 1000 by omega), xh_cl (show q < 1000 by omega)]
  by_cases kp : kd p = 2
  · obtain ⟨c, hcc, ec, _⟩ := xm_HK2 H hp sp kp
    obtain ⟨d, hdc, ed, _⟩ := xm_HK2 H hq sq (hsc.1.symm.trans kp)
    rw [ec, ed, xh_16 c, nI_add]
    refine ⟨ip, br_t kp ⟨ip, iq, xh_in (by omega) (by omega), ?_⟩⟩
    rw [xh_cl (show 16 * c + d < 1000 by omega)]
    refine br_c (fun r0 => h0 (fun z => ?_)) (fun r1 => nm_r (nI_1 f) (hJ (fun _ => ?_)))
    · have := z kp
      rw [ec, ed, xh_cl (by omega), xh_cl (by omega)] at this
      exact this r0
    · rw [ec, ed, xh_cl (by omega), xh_cl (by omega)]
      exact r1
  · exact ⟨ip, br_f kp (nm_r (nI_1 f) (hJ (fun z => absurd z kp)))⟩
theorem yw_holds {post : Int32 → Prop} {x y : Nat} (hc : cap ≤ 16) (H : xm_HK cap st kd vl) (hx : x < 16) (hy : y < 16) (h1 : xm_HB st tg kd vl (fun a b => ¬ rl (16 * a + b) = 0) x y → post 1)
    (h0 : ¬ xm_HB st tg kd vl (fun a b => ¬ rl (16 * a + b) = 0) x y → post 0) : wpY_holds post (nI cap, nI rc, rt, st, tg, kd, vl, mk, rl) (nI x) (nI y) := by
  unfold wpY_holds
  dsimp only
  rw [xh_cl (show x < 1000 by omega), xh_cl (show y < 1000 by omega)]
  have ix : vp_in (nI x) 16 := xh_in hx (by omega)
  have iy : vp_in (nI y) 16 := xh_in hy (by omega)
  by_cases exy : x = y
  · subst exy
    exact br_t rfl (h1 (Or.inl rfl))
  · refine br_f (fun z => exy (xh_inj z (by omega) (by omega))) ⟨ix, br_c (fun s1 => ⟨iy, br_c (fun s2 => ⟨ix, iy, br_c (fun t => ?_) (fun n => h0 (fun z => ?_))⟩) (fun n => h0 (fun z => ?_))⟩) (fun n => h0 (fun z => ?_))⟩
    · have nx : ¬ st x = 0 := fun z => xm_n02 z s1
      have ny : ¬ st y = 0 := fun z => xm_n02 z s2
      refine loop_0 (fun n f (_ : Unit) => wY_holds_46 post (nI x) (nI y) (nI cap) (nI rc) rt st tg kd vl mk rl n (nI f)) (fun f _ => ∀ g, g < f → xm_SC kd vl (2 * x + g) (2 * y + g) ∧ xm_TP kd vl (fun a b => ¬ rl (16 * a + b) = 0) (2 * x + g) (2 * y + g)) 2 () ?_ ?_ ?_
      · intro g h; omega
      · intro n _ h
        exact br_t (show (2 : Int32) ≤ nI 2 by decide) (h1 (Or.inr ⟨⟨s1, s2, t, (h 0 (by omega)).1, (h 1 (by omega)).1⟩, (h 0 (by omega)).2, (h 1 (by omega)).2⟩))
      · intro n f _ hf h k
        have hp : 2 * x + f < 32 := by omega
        have hq : 2 * y + f < 32 := by omega
        have sp : ¬ st ((2 * x + f) / 2) = 0 := by rw [show (2 * x + f) / 2 = x by omega]; exact nx
        have sq : ¬ st ((2 * y + f) / 2) = 0 := by rw [show (2 * y + f) / 2 = y by omega]; exact ny
        have hno : xm_HB st tg kd vl (fun a b => ¬ rl (16 * a + b) = 0) x y → xm_SC kd vl (2 * x + f) (2 * y + f) ∧ xm_TP kd vl (fun a b => ¬ rl (16 * a + b) = 0) (2 * x + f) (2 * y + f) := by
          intro z
          rcases z with z | ⟨l, t1, t2⟩
          · exact absurd z exy
          · rcases (by omega : f = 0 ∨ f = 1) with e | e
            · subst e; exact ⟨l.2.2.2.1, t1⟩
            · subst e; exact ⟨l.2.2.2.2, t2⟩
        refine br_f (nI_ge (b := 2) hf (by decide)) (nm_r (e' := nI (2 * x + f)) (by rw [xh_2, nI_add]) (nm_r (e' := nI (2 * y + f)) (by rw [xh_2, nI_add]) ?_))
        have ip : vp_in (nI (2 * x + f)) 32 := xh_in hp (by omega)
        have iq : vp_in (nI (2 * y + f)) 32 := xh_in hq (by omega)
        rw [xh_cl (show 2 * x + f < 1000 by omega), xh_cl (show 2 * y + f < 1000 by omega)]
        have key : xm_SC kd vl (2 * x + f) (2 * y + f) → wY_holds_114 post (wY_holds_46 post (nI x) (nI y) (nI cap) (nI rc) rt st tg kd vl mk rl n) (nI x) (nI y) (nI f) (nI (2 * x + f)) (nI (2 * y + f)) (nI cap) (nI rc) rt st tg kd vl mk rl := fun hsc =>
          yw_h114 hc H hp hq sp sq hsc (fun ht => k () (lt_s h ⟨hsc, ht⟩)) (fun hn => h0 (fun z => hn (hno z).2))
        exact ⟨ip, iq, br_c (fun e => ⟨ip, br_c (fun e1 => ⟨ip, iq, br_c (fun ev => key ⟨e, fun _ => ev⟩) (fun nv => h0 (fun z => nv ((hno z).1.2 e1)))⟩) (fun n1 => key ⟨e, fun z => absurd z n1⟩)⟩) (fun ne => h0 (fun z => ne (hno z).1.1))⟩
    · rcases z with z | z
      · exact exy z
      · exact n z.1.2.2.1
    · rcases z with z | z
      · exact exy z
      · exact n z.1.2.1
    · rcases z with z | z
      · exact exy z
      · exact n z.1.1
/-- the relation that the table holds obeys the rule -/
def ym_PF (st tg kd vl rl : Nat → Int32) : Prop := ∀ p, p < 256 → ¬ rl p = 0 → xm_HB st tg kd vl (fun a b => ¬ rl (16 * a + b) = 0) (p / 16) (p % 16)
theorem ym_fin (hc : cap ≤ 16) (H : xm_HK cap st kd vl) (h1 : ∀ x y, x < 16 → y < 16 → xm_Bi st tg kd vl x y → ¬ rl (16 * x + y) = 0) (h2 : ym_PF st tg kd vl rl) :
    ∀ x y, x < 16 → y < 16 → (¬ rl (16 * x + y) = 0 ↔ xm_Bi st tg kd vl x y) := by
  intro x y hx hy
  refine ⟨fun hr => ⟨fun a b => a < 16 ∧ b < 16 ∧ ¬ rl (16 * a + b) = 0, ?_, hx, hy, hr⟩, h1 x y hx hy⟩
  intro a b ha hb h
  have := h2 (16 * a + b) (by omega) h.2.2
  rw [show (16 * a + b) / 16 = a by omega, show (16 * a + b) % 16 = b by omega] at this
  exact xm_HB16 hc H ha hb (fun c d hc' hd' z => ⟨hc', hd', z⟩) this
noncomputable def ym_ct (s : Nat → Int32) : Nat := cz_n (fun p => ¬ s p = 0) 256
theorem ym_ct_le (s : Nat → Int32) : ym_ct s ≤ 256 := cz_le (fun p => ¬ s p = 0) 256
theorem ym_ct_no {s : Nat → Int32} (h : ym_ct s = 0) : ∀ p, p < 256 → ¬ ¬ s p = 0 := cz_none (P := fun p => ¬ s p = 0) (N := 256) h
theorem ym_ct_lt {s : Nat → Int32} {p : Nat} (hp : p < 256) (hz : ¬ s p = 0) : ym_ct (upd s p 0) < ym_ct s := by
  refine cz_lt (P := fun q => ¬ upd s p 0 q = 0) (Q := fun q => ¬ s q = 0) (a := p) (fun z => z pk_us) hz ?_ hp
  intro q _ hq
  by_cases e : q = p
  · subst e; exact hz
  · rw [pk_un e] at hq; exact hq
theorem yw_alike {post : SY → Prop} (hc : cap ≤ 16) (H : xm_HK cap st kd vl)
    (hp : ∀ rl' : Nat → Int32, (∀ x y, x < 16 → y < 16 → (¬ rl' (16 * x + y) = 0 ↔ xm_Bi st tg kd vl x y)) → post (nI cap, nI rc, rt, st, tg, kd, vl, mk, rl')) : wpY_findAlike post (nI cap, nI rc, rt, st, tg, kd, vl, mk, rl) := by
  unfold wpY_findAlike
  dsimp only
  refine loop_0 (fun n i (s : Nat → Int32) => wY_findAlike_2 post (nI cap) (nI rc) n (nI i) rt st tg kd vl mk s) (fun i s => ∀ p, p < i → ¬ s p = 0) 256 rl ?_ ?_ ?_
  · intro c h; omega
  · intro n s0 h0
    refine br_t xh_g256 ?_
    refine loop_0 (fun n j (t : Int32 × (Nat → Int32)) => wY_findAlike_26 post (nI cap) (nI rc) n t.1 (nI j) rt st tg kd vl mk t.2)
      (fun j t => (∀ x y, x < 16 → y < 16 → xm_Bi st tg kd vl x y → ¬ t.2 (16 * x + y) = 0) ∧ ((t.1 = 0 ∧ ym_PF st tg kd vl t.2) ∨ (t.1 = 1 ∧ ym_ct t.2 + j ≤ 256))) 256 (1, s0) ?_ ?_ ?_
    · refine ⟨fun x y hx hy _ => h0 _ (by omega), Or.inr ⟨rfl, ?_⟩⟩
      have := ym_ct_le s0
      show ym_ct s0 + 0 ≤ 256
      omega
    · intro n t h
      obtain ⟨b, s⟩ := t
      obtain ⟨h1, h2⟩ := h
      refine br_t xh_g256 (hp s (ym_fin hc H h1 ?_))
      rcases h2 with ⟨_, h2⟩ | ⟨_, h2⟩
      · exact h2
      · intro p hp256 hn
        exact absurd hn (ym_ct_no (by dsimp only at h2; omega) p hp256)
    · intro n j t hj h k
      obtain ⟨b, s⟩ := t
      obtain ⟨h1, h2⟩ := h
      dsimp only at h1 h2
      refine br_f (xh_l256 hj) (br_c (fun e => ?_) (fun nz => ?_))
      · rcases h2 with ⟨_, h2⟩ | ⟨e', _⟩
        · exact hp s (ym_fin hc H h1 h2)
        · exact (xm_n01 e e').elim
      · have hcnt : ym_ct s + j ≤ 256 := by
          rcases h2 with ⟨e', _⟩ | ⟨_, h2⟩
          · exact absurd e' nz
          · exact h2
        refine loop_0 (fun n' p (t : Int32 × (Nat → Int32)) => wY_findAlike_41 post (wY_findAlike_26 post (nI cap) (nI rc) n) (nI j) (nI cap) (nI rc) n' t.1 (nI p) rt st tg kd vl mk t.2)
          (fun p t => (∀ x y, x < 16 → y < 16 → xm_Bi st tg kd vl x y → ¬ t.2 (16 * x + y) = 0) ∧
            ((t.1 = 0 ∧ t.2 = s ∧ ∀ q, q < p → ¬ t.2 q = 0 → xm_HB st tg kd vl (fun a b => ¬ t.2 (16 * a + b) = 0) (q / 16) (q % 16)) ∨ (t.1 = 1 ∧ ym_ct t.2 < ym_ct s))) 256 (0, s) ?_ ?_ ?_
        · exact ⟨h1, Or.inl ⟨rfl, rfl, fun q h => absurd h (by omega)⟩⟩
        · intro n' t g
          obtain ⟨b', s'⟩ := t
          obtain ⟨g1, g2⟩ := g
          dsimp only at g1 g2
          refine br_t xh_g256 (nm_r (nI_1 j) (k (b', s') ⟨g1, ?_⟩))
          rcases g2 with ⟨e, _, g⟩ | ⟨e, g⟩
          · exact Or.inl ⟨e, g⟩
          · exact Or.inr ⟨e, by dsimp only; omega⟩
        · intro n' p t hp256 g k'
          obtain ⟨b', s'⟩ := t
          obtain ⟨g1, g2⟩ := g
          dsimp only at g1 g2
          refine br_f (xh_l256 hp256) ⟨xh_in hp256 (by omega), ?_⟩
          rw [xh_cl (show p < 1000 by omega)]
          by_cases hz : s' p = 0
          · refine br_t hz (nm_r (nI_1 p) (k' (b', s') ⟨g1, ?_⟩))
            rcases g2 with ⟨e, e', g⟩ | ⟨e, g⟩
            · exact Or.inl ⟨e, e', lt_s g (fun z => absurd hz z)⟩
            · exact Or.inr ⟨e, g⟩
          · rw [xh_m16 (show p < 1000 by omega), xh_d16 (show p < 1000 by omega)]
            refine br_f hz ⟨xh_d160, xh_d160, yw_holds hc H (by omega) (by omega) (fun hh => br_f xh_10 (nm_r (nI_1 p) (k' (b', s') ⟨g1, ?_⟩))) (fun hn => br_t rfl ⟨xh_in hp256 (by omega), ?_⟩)⟩
            · rcases g2 with ⟨e, e', g⟩ | ⟨e, g⟩
              · exact Or.inl ⟨e, e', lt_s g (fun _ => hh)⟩
              · exact Or.inr ⟨e, g⟩
            · rw [xh_b0]
              refine nm_e (nm_r (nI_1 p) (k' (1, upd s' p 0) ⟨?_, Or.inr ⟨rfl, ?_⟩⟩))
              · intro x y hx hy hb
                show ¬ upd s' p 0 (16 * x + y) = 0
                by_cases e : 16 * x + y = p
                · subst e
                  rw [show (16 * x + y) / 16 = x by omega, show (16 * x + y) % 16 = y by omega] at hn
                  exact absurd (xm_HB16 hc H hx hy g1 (xm_Bi_pf x y hx hy hb)) hn
                · rw [pk_un e]
                  exact g1 x y hx hy hb
              · have hlt := ym_ct_lt hp256 hz
                show ym_ct (upd s' p 0) < ym_ct s
                rcases g2 with ⟨_, e', _⟩ | ⟨_, g⟩
                · rw [e'] at hlt ⊢; exact hlt
                · omega
  · intro n i s hi h k
    refine br_f (xh_l256 hi) ⟨xh_in hi (by omega), xh_u1 i (nm_r (nI_1 i) (k _ ?_))⟩
    exact lt_s (fun c hc' => by rw [pk_un (by omega)]; exact h c hc') (by rw [pk_us]; exact xh_10)
theorem yw_kept {post : Int32 → Prop} {x : Nat} (HM : ∀ c, c < 16 → (¬ mk c = 0 ↔ L c)) (HB : ∀ a b, a < 16 → b < 16 → (¬ rl (16 * a + b) = 0 ↔ B a b)) (hL16 : ∀ c, L c → c < 16)
    (hx : L x) (hb : B x x) (hp : xm_kf L B x < 16 → post (nI (xm_kf L B x))) : wpY_keptFor post (nI cap, nI rc, rt, st, tg, kd, vl, mk, rl) (nI x) := by
  have hx16 := hL16 x hx
  unfold wpY_keptFor
  dsimp only
  refine loop_0 (fun n i (_ : Unit) => wY_keptFor_2 post (nI x) (nI cap) (nI rc) rt st tg kd vl mk rl n (nI i)) (fun i _ => ∀ y, y < i → L y → ¬ B x y) 16 () ?_ ?_ ?_
  · intro y h; omega
  · intro n _ h
    exact absurd hb (h x hx16 hx)
  · intro n i _ hi h k
    refine br_f (xh_l16 hi) ⟨xh_in hi (by omega), ?_⟩
    rw [xh_cl (show i < 1000 by omega), xh_16 x, nI_add, xh_cl (show 16 * x + i < 1000 by omega)]
    by_cases hm : mk i = 0
    · exact br_t hm (nm_r (nI_1 i) (k () (lt_s h (fun z => absurd hm ((HM i hi).mpr z)))))
    · have hLi := (HM i hi).mp hm
      refine br_f hm ⟨xh_in (by omega) (by omega), br_c (fun e => nm_r (nI_1 i) (k () (lt_s h (fun _ z => (HB x i hx16 hi).mpr z e)))) (fun e => ?_)⟩
      have hBi := (HB x i hx16 hi).mp e
      have m : xm_Mn L B x i := ⟨hLi, hBi, fun z hz hr => Nat.not_lt.mp (fun q => h z q hz hr)⟩
      have ek := xm_kf_e m
      rw [ek] at hp
      exact hp hi
end
end
section
/-! part 07: the component's tests and its larger methods -/
def xm_bad (rc : Nat) (v : Int32) : Prop := v < 0 ∨ nI rc ≤ v
theorem xm_ix {rc : Nat} (hr : rc ≤ 8) (v : Int32) : xm_bad rc v ∨ ∃ j, j < rc ∧ v = nI j := by
  rcases pk_ix v (n := rc) (by omega) with h | h | h
  · exact Or.inl (Or.inl h)
  · exact Or.inl (Or.inr h)
  · exact Or.inr h
theorem xm_nbad {rc j : Nat} (hr : rc ≤ 8) (hj : j < rc) : ¬ xm_bad rc (nI j) := by
  intro h
  rcases h with h | h
  · exact nI_pos (by omega) h
  · exact nI_ge hj (by omega) h
theorem xh_n1 : ¬ (-1 : Int32) = 0 := by decide
theorem xh_n2 : ¬ (-2 : Int32) = 0 := by decide
theorem xh_n3 : ¬ (-3 : Int32) = 0 := by decide
theorem xh_n4 : ¬ (-4 : Int32) = 0 := by decide
section
variable {cap rc : Nat} {ql : Int32} {st tg kd vl rt re qu bl nb : Nat → Int32} {L : Nat → Prop}
theorem xw_trB {post : Int32 → Prop} {v : Int32} (h : xm_bad rc v) (hp : post (-1)) : wpX_testRoot post (nI cap, nI rc, ql, st, tg, kd, vl, rt, re, qu, bl, nb) v := by
  unfold wpX_testRoot
  dsimp only
  exact br_c (fun _ => hp) (fun hn => br_f (Int32.not_lt.mpr (h.resolve_left hn)) hp)
theorem xw_trG {post : Int32 → Prop} {j : Nat} (hr : rc ≤ 8) (hj : j < rc) (hp : post 0) : wpX_testRoot post (nI cap, nI rc, ql, st, tg, kd, vl, rt, re, qu, bl, nb) (nI j) := by
  unfold wpX_testRoot
  dsimp only
  exact br_f (nI_pos (by omega)) (br_t (nI_lt hj (by omega)) hp)
theorem xw_t2B {post : Int32 → Prop} {a b : Int32} (hr : rc ≤ 8) (h : xm_bad rc a ∨ xm_bad rc b) (hp : post (-1)) : wpX_testTwoRoots post (nI cap, nI rc, ql, st, tg, kd, vl, rt, re, qu, bl, nb) a b := by
  unfold wpX_testTwoRoots
  dsimp only
  rcases xm_ix hr a with ha | ⟨i, hi, rfl⟩
  · exact xw_trB ha (br_f xh_n1 hp)
  · refine xw_trG hr hi (br_t rfl ?_)
    rcases h with h | h
    · exact absurd h (xm_nbad hr hi)
    · exact xw_trB h hp
theorem xw_t2G {post : Int32 → Prop} {i j : Nat} (hr : rc ≤ 8) (hi : i < rc) (hj : j < rc) (hp : post 0) : wpX_testTwoRoots post (nI cap, nI rc, ql, st, tg, kd, vl, rt, re, qu, bl, nb) (nI i) (nI j) := by
  unfold wpX_testTwoRoots
  dsimp only
  exact xw_trG hr hi (br_t rfl (xw_trG hr hj hp))
theorem xw_tcB {post : Int32 → Prop} {v : Int32} (h : xm_bad rc v) (hp : post (-1)) : wpX_testCell post (nI cap, nI rc, ql, st, tg, kd, vl, rt, re, qu, bl, nb) v := by
  unfold wpX_testCell
  dsimp only
  exact xw_trB h (br_f xh_n1 hp)
theorem xw_tcN {post : Int32 → Prop} {j : Nat} (hr : rc ≤ 8) (hj : j < rc) (h : rt j = -1) (hp : post (-3)) : wpX_testCell post (nI cap, nI rc, ql, st, tg, kd, vl, rt, re, qu, bl, nb) (nI j) := by
  unfold wpX_testCell
  dsimp only
  refine xw_trG hr hj (br_t rfl ⟨xh_in (by omega) (by omega), ?_⟩)
  rw [xh_cl (show j < 1000 by omega), h]
  exact br_f xh_m1' hp
theorem xw_tcG {post : Int32 → Prop} {j c : Nat} (hr : rc ≤ 8) (hj : j < rc) (hc : c < 16) (h : rt j = nI c) (hp : post 0) : wpX_testCell post (nI cap, nI rc, ql, st, tg, kd, vl, rt, re, qu, bl, nb) (nI j) := by
  unfold wpX_testCell
  dsimp only
  refine xw_trG hr hj (br_t rfl ⟨xh_in (by omega) (by omega), ?_⟩)
  rw [xh_cl (show j < 1000 by omega), h]
  exact br_t (nI_pos' (by omega)) hp
theorem xw_c2B {post : Int32 → Prop} {a b : Int32} (hr : rc ≤ 8) (h : xm_bad rc a ∨ xm_bad rc b) (hp : post (-1)) : wpX_testTwoCells post (nI cap, nI rc, ql, st, tg, kd, vl, rt, re, qu, bl, nb) a b := by
  unfold wpX_testTwoCells
  dsimp only
  exact xw_t2B hr h (br_f xh_n1 hp)
theorem xw_c2N1 {post : Int32 → Prop} {i j : Nat} (hr : rc ≤ 8) (hi : i < rc) (hj : j < rc) (h : rt i = -1) (hp : post (-3)) : wpX_testTwoCells post (nI cap, nI rc, ql, st, tg, kd, vl, rt, re, qu, bl, nb) (nI i) (nI j) := by
  unfold wpX_testTwoCells
  dsimp only
  refine xw_t2G hr hi hj (br_t rfl ⟨xh_in (by omega) (by omega), ?_⟩)
  rw [xh_cl (show i < 1000 by omega), h]
  exact br_t xh_m1 hp
theorem xw_c2N2 {post : Int32 → Prop} {i j c : Nat} (hr : rc ≤ 8) (hi : i < rc) (hj : j < rc) (hc : c < 16) (h : rt i = nI c) (h' : rt j = -1) (hp : post (-3)) : wpX_testTwoCells post (nI cap, nI rc, ql, st, tg, kd, vl, rt, re, qu, bl, nb) (nI i) (nI j) := by
  unfold wpX_testTwoCells
  dsimp only
  refine xw_t2G hr hi hj (br_t rfl ⟨xh_in (by omega) (by omega), ?_⟩)
  rw [xh_cl (show i < 1000 by omega), h, xh_cl (show j < 1000 by omega), h']
  exact br_f (nI_pos (by omega)) ⟨xh_in (by omega) (by omega), br_f xh_m1' hp⟩
theorem xw_c2G {post : Int32 → Prop} {i j c d : Nat} (hr : rc ≤ 8) (hi : i < rc) (hj : j < rc) (hc : c < 16) (hd : d < 16) (h : rt i = nI c) (h' : rt j = nI d) (hp : post 0) : wpX_testTwoCells post (nI cap, nI rc, ql, st, tg, kd, vl, rt, re, qu, bl, nb) (nI i) (nI j) := by
  unfold wpX_testTwoCells
  dsimp only
  refine xw_t2G hr hi hj (br_t rfl ⟨xh_in (by omega) (by omega), ?_⟩)
  rw [xh_cl (show i < 1000 by omega), h, xh_cl (show j < 1000 by omega), h']
  exact br_f (nI_pos (by omega)) ⟨xh_in (by omega) (by omega), br_t (nI_pos' (by omega)) hp⟩
theorem xw_rdB {post : Int32 → Prop} {a f : Int32} (h : xm_bad rc a) (hp : post (-1)) : wpX_testRead post (nI cap, nI rc, ql, st, tg, kd, vl, rt, re, qu, bl, nb) a f := by
  unfold wpX_testRead
  dsimp only
  exact xw_trB h (br_f xh_n1 hp)
theorem xw_rdF {post : Int32 → Prop} {j : Nat} {f : Int32} (hr : rc ≤ 8) (hj : j < rc) (h0 : ¬ f = 0) (h1 : ¬ f = 1) (hp : post (-2)) : wpX_testRead post (nI cap, nI rc, ql, st, tg, kd, vl, rt, re, qu, bl, nb) (nI j) f := by
  unfold wpX_testRead
  dsimp only
  exact xw_trG hr hj (br_t rfl (br_f h0 (br_f h1 hp)))
theorem xw_rd24 {post : Int32 → Prop} {j : Nat} {f : Int32} (hr : rc ≤ 8) (hj : j < rc) (hf : f = 0 ∨ f = 1) (hp : wX_testRead_24 post (nI j) (nI cap) (nI rc) ql st tg kd vl rt re qu bl nb) : wpX_testRead post (nI cap, nI rc, ql, st, tg, kd, vl, rt, re, qu, bl, nb) (nI j) f := by
  unfold wpX_testRead
  dsimp only
  exact xw_trG hr hj (br_t rfl (br_c (fun _ => hp) (fun h0 => br_t (hf.resolve_left h0) hp)))
theorem xw_rdN {post : Int32 → Prop} {j : Nat} {f : Int32} (hr : rc ≤ 8) (hj : j < rc) (hf : f = 0 ∨ f = 1) (h : rt j = -1) (hp : post (-3)) : wpX_testRead post (nI cap, nI rc, ql, st, tg, kd, vl, rt, re, qu, bl, nb) (nI j) f := by
  refine xw_rd24 hr hj hf ?_
  unfold wX_testRead_24
  rw [xh_cl (show j < 1000 by omega), h]
  exact ⟨xh_in (by omega) (by omega), br_f xh_m1' hp⟩
theorem xw_rdG {post : Int32 → Prop} {j c : Nat} {f : Int32} (hr : rc ≤ 8) (hj : j < rc) (hf : f = 0 ∨ f = 1) (hc : c < 16) (h : rt j = nI c) (hp : post 0) : wpX_testRead post (nI cap, nI rc, ql, st, tg, kd, vl, rt, re, qu, bl, nb) (nI j) f := by
  refine xw_rd24 hr hj hf ?_
  unfold wX_testRead_24
  rw [xh_cl (show j < 1000 by omega), h]
  exact ⟨xh_in (by omega) (by omega), br_t (nI_pos' (by omega)) hp⟩
theorem xw_wrB {post : Int32 → Prop} {a f : Int32} (h : xm_bad rc a) (hp : post (-1)) : wpX_testWrite post (nI cap, nI rc, ql, st, tg, kd, vl, rt, re, qu, bl, nb) a f := by
  unfold wpX_testWrite
  dsimp only
  exact xw_rdB h (br_f xh_n1 hp)
theorem xw_wrF {post : Int32 → Prop} {j : Nat} {f : Int32} (hr : rc ≤ 8) (hj : j < rc) (h0 : ¬ f = 0) (h1 : ¬ f = 1) (hp : post (-2)) : wpX_testWrite post (nI cap, nI rc, ql, st, tg, kd, vl, rt, re, qu, bl, nb) (nI j) f := by
  unfold wpX_testWrite
  dsimp only
  exact xw_rdF hr hj h0 h1 (br_f xh_n2 hp)
theorem xw_wrN {post : Int32 → Prop} {j : Nat} {f : Int32} (hr : rc ≤ 8) (hj : j < rc) (hf : f = 0 ∨ f = 1) (h : rt j = -1) (hp : post (-3)) : wpX_testWrite post (nI cap, nI rc, ql, st, tg, kd, vl, rt, re, qu, bl, nb) (nI j) f := by
  unfold wpX_testWrite
  dsimp only
  exact xw_rdN hr hj hf h (br_f xh_n3 hp)
theorem xw_wrZ {post : Int32 → Prop} {j c : Nat} {f : Int32} (hr : rc ≤ 8) (hj : j < rc) (hf : f = 0 ∨ f = 1) (hc : c < 16) (h : rt j = nI c) (hs : st c = 2) (hp : post (-4)) : wpX_testWrite post (nI cap, nI rc, ql, st, tg, kd, vl, rt, re, qu, bl, nb) (nI j) f := by
  unfold wpX_testWrite
  dsimp only
  refine xw_rdG hr hj hf hc h (br_t rfl ?_)
  rw [xh_cl (show j < 1000 by omega), h, xh_cl (show c < 1000 by omega)]
  exact ⟨xh_in (by omega) (by omega), xh_in hc (by omega), br_t hs hp⟩
theorem xw_wrG {post : Int32 → Prop} {j c : Nat} {f : Int32} (hr : rc ≤ 8) (hj : j < rc) (hf : f = 0 ∨ f = 1) (hc : c < 16) (h : rt j = nI c) (hs : ¬ st c = 2) (hp : post 0) : wpX_testWrite post (nI cap, nI rc, ql, st, tg, kd, vl, rt, re, qu, bl, nb) (nI j) f := by
  unfold wpX_testWrite
  dsimp only
  refine xw_rdG hr hj hf hc h (br_t rfl ?_)
  rw [xh_cl (show j < 1000 by omega), h, xh_cl (show c < 1000 by omega)]
  exact ⟨xh_in (by omega) (by omega), xh_in hc (by omega), br_f hs hp⟩
/-! cells -/
theorem xw_free {post : Int32 → Prop} (hc : cap ≤ 16) (h1 : ∀ d, d < cap → st d = 0 → (∀ c, c < d → ¬ st c = 0) → post (nI d)) (h0 : (∀ c, c < cap → ¬ st c = 0) → post (-1)) : wpX_findFreeSlot post (nI cap, nI rc, ql, st, tg, kd, vl, rt, re, qu, bl, nb) := by
  unfold wpX_findFreeSlot
  dsimp only
  refine loop_0 (fun n i (_ : Unit) => wX_findFreeSlot_2 post (nI cap) (nI rc) ql st tg kd vl rt re qu bl nb n (nI i)) (fun i _ => ∀ c, c < i → ¬ st c = 0) cap () ?_ ?_ ?_
  · intro c h; omega
  · intro n _ h
    exact br_t (Int32.le_refl _) (h0 h)
  · intro n i _ hi h k
    refine br_f (nI_ge hi (by omega)) ⟨xh_in (by omega) (by omega), ?_⟩
    rw [xh_cl (show i < 1000 by omega)]
    exact br_c (fun e => h1 i hi e h) (fun e => nm_r (nI_1 i) (k () (lt_s h e)))
theorem xw_clearF {post : SX → Prop} {d : Nat} (hd : d < 16) (hp : post (nI cap, nI rc, ql, st, tg, upd (upd kd (2 * d) 0) (2 * d + 1) 0, upd (upd vl (2 * d) 0) (2 * d + 1) 0, rt, re, qu, bl, nb)) : wpX_clearFields post (nI cap, nI rc, ql, st, tg, kd, vl, rt, re, qu, bl, nb) (nI d) := by
  unfold wpX_clearFields
  dsimp only
  refine ⟨3, ?_⟩
  refine br_f (nI_ge (a := 0) (b := 2) (by omega) (by decide)) ?_
  have e0 : (2 : Int32) * nI d + 0 = nI (2 * d) := by rw [xh_2]; exact nI_add (2 * d) 0
  have e1 : (2 : Int32) * nI d + nI 1 = nI (2 * d + 1) := by rw [xh_2]; exact nI_add (2 * d) 1
  rw [e0]
  refine ⟨xh_in (by omega) (by omega), xh_up (2 * d) ⟨xh_in (by omega) (by omega), xh_up (2 * d) (nm_r (e' := nI 1) rfl ?_)⟩⟩
  refine br_f (nI_ge (a := 1) (b := 2) (by omega) (by decide)) ?_
  rw [e1]
  refine ⟨xh_in (by omega) (by omega), xh_up (2 * d + 1) ⟨xh_in (by omega) (by omega), xh_up (2 * d + 1) (nm_r (e' := nI 2) rfl ?_)⟩⟩
  exact br_t (show (2 : Int32) ≤ nI 2 by decide) hp
theorem xm_u2a {a : Nat → Int32} {d p : Nat} {w : Int32} (h : p / 2 = d) : upd (upd a (2 * d) w) (2 * d + 1) w p = w := by
  rcases (by omega : p = 2 * d + 1 ∨ (p ≠ 2 * d + 1 ∧ p = 2 * d)) with e | ⟨e, e'⟩
  · subst e; exact pk_us
  · rw [pk_un e, e']; exact pk_us
theorem xm_u2b {a : Nat → Int32} {d p : Nat} {w : Int32} (h : ¬ p / 2 = d) : upd (upd a (2 * d) w) (2 * d + 1) w p = a p := by
  rw [pk_un (by omega), pk_un (by omega)]
/-! freezeReach -/
def xm_FO (L : Nat → Prop) (st st' : Nat → Int32) : Prop := ∀ c, (L c ∧ st c = 1 → st' c = 2) ∧ (¬ (L c ∧ st c = 1) → st' c = st c)
theorem xw_frB {post : Int32 → SX → Prop} {v : Int32} (h : xm_bad rc v) (hp : post (-1) (nI cap, nI rc, ql, st, tg, kd, vl, rt, re, qu, bl, nb)) : wpX_freezeReach post (nI cap, nI rc, ql, st, tg, kd, vl, rt, re, qu, bl, nb) v := by
  unfold wpX_freezeReach
  dsimp only
  exact xw_tcB h (br_f xh_n1 hp)
theorem xw_frN {post : Int32 → SX → Prop} {j : Nat} (hr : rc ≤ 8) (hj : j < rc) (h : rt j = -1) (hp : post (-3) (nI cap, nI rc, ql, st, tg, kd, vl, rt, re, qu, bl, nb)) : wpX_freezeReach post (nI cap, nI rc, ql, st, tg, kd, vl, rt, re, qu, bl, nb) (nI j) := by
  unfold wpX_freezeReach
  dsimp only
  exact xw_tcN hr hj h (br_f xh_n3 hp)
theorem xw_frG {post : Int32 → SX → Prop} {j c0 : Nat} (hc : cap ≤ 16) (hr : rc ≤ 8) (H : xm_HK cap st kd vl) (hj : j < rc) (h : rt j = nI c0) (hc0 : c0 < cap) (hs0 : ¬ st c0 = 0)
    (hp : ∀ (q' : Int32) (st' re' qu' : Nat → Int32), xm_FO (xm_Lv kd vl (fun c => c = c0)) st st' → post (nI (cz_n (fun c => xm_Lv kd vl (fun c => c = c0) c ∧ st c = 1) 16)) (nI cap, nI rc, q', st', tg, kd, vl, rt, re', qu', bl, nb)) : wpX_freezeReach post (nI cap, nI rc, ql, st, tg, kd, vl, rt, re, qu, bl, nb) (nI j) := by
  have hS : ∀ c, c = c0 → c < cap ∧ ¬ st c = 0 := fun c e => by subst e; exact ⟨hc0, hs0⟩
  have K := xm_LK_of (S := fun c => c = c0) hc H hS
  unfold wpX_freezeReach
  dsimp only
  refine xw_tcG hr hj (by omega) h (br_t rfl ?_)
  refine xw_clear hc ?_
  intro re1 h1
  dsimp only
  refine ⟨xh_in (by omega) (by omega), ?_⟩
  rw [xh_cl (show j < 1000 by omega), h]
  refine xw_visit (q := 0) (h := 0) (L := xm_Lv kd vl (fun c => c = c0)) hc ?_ hc0 (xm_Lv_s rfl) ?_
  · refine ⟨?_, by omega, fun i hi => absurd hi (by omega), fun c hcc hn => absurd (h1 c hcc) hn, fun i hi => absurd hi (by omega)⟩
    exact (cz_zero (fun a ha z => z (h1 a ha))).symm
  · intro q2 re2 qu2 a1 T2 a3 a4 a5
    dsimp only
    refine xw_trace hc K T2 ?_
    intro q3 re3 qu3 b1 b2 b3
    dsimp only
    have HL := xm_Lv_iff hc K (fun c e => by subst e; exact ⟨hc0, b1 _ a5⟩) b2 b3
    refine loop_0 (fun n i (t : Int32 × (Nat → Int32)) => wX_freezeReach_35 post n t.1 (nI i) (nI cap) (nI rc) q3 t.2 tg kd vl rt re3 qu3 bl nb)
      (fun i t => t.1 = nI (cz_n (fun c => xm_Lv kd vl (fun c => c = c0) c ∧ st c = 1) i) ∧ (∀ c, c < i → (xm_Lv kd vl (fun c => c = c0) c ∧ st c = 1 → t.2 c = 2) ∧ (¬ (xm_Lv kd vl (fun c => c = c0) c ∧ st c = 1) → t.2 c = st c)) ∧ (∀ c, i ≤ c → t.2 c = st c)) cap (0, st) ?_ ?_ ?_
    · exact ⟨rfl, fun c h => absurd h (by omega), fun _ _ => rfl⟩
    · intro n t g
      obtain ⟨x, s⟩ := t
      obtain ⟨g1, g2, g3⟩ := g
      dsimp only at g1 g2 g3
      refine br_t (Int32.le_refl _) ?_
      have e : cz_n (fun c => xm_Lv kd vl (fun c => c = c0) c ∧ st c = 1) 16 = cz_n (fun c => xm_Lv kd vl (fun c => c = c0) c ∧ st c = 1) cap :=
        cz_ext 16 hc (fun c hcc z => absurd (K.1 c z.1).1 (by omega))
      rw [g1, ← e]
      refine hp q3 s re3 qu3 (fun c => ?_)
      rcases Nat.lt_or_ge c cap with hcc | hcc
      · exact g2 c hcc
      · exact ⟨fun z => absurd (K.1 c z.1).1 (by omega), fun _ => g3 c hcc⟩
    · intro n i t hi g k
      obtain ⟨x, s⟩ := t
      obtain ⟨g1, g2, g3⟩ := g
      dsimp only at g1 g2 g3
      have ii : vp_in (nI i) 16 := xh_in (by omega) (by omega)
      refine br_f (nI_ge hi (by omega)) ⟨ii, ?_⟩
      rw [xh_cl (show i < 1000 by omega)]
      by_cases hz : re3 i = 0
      · have hnL : ¬ (xm_Lv kd vl (fun c => c = c0) i ∧ st i = 1) := fun z => (HL i hi).mpr z.1 hz
        refine br_t hz (nm_r (nI_1 i) (k (x, s) ⟨?_, lt_s g2 ⟨fun z => absurd z hnL, fun _ => g3 i (Nat.le_refl _)⟩, fun c hcc => g3 c (by omega)⟩))
        rw [cz_sf hnL]; exact g1
      · have hL := (HL i hi).mp hz
        refine br_f hz ?_
        unfold wpX_freezeCell
        dsimp only
        rw [xh_cl (show i < 1000 by omega), g3 i (Nat.le_refl _)]
        refine ⟨ii, br_c (fun e => ⟨ii, nm_e ?_⟩) (fun e => ?_)⟩
        · refine nm_e (nm_r (nI_1 i) (k (x + 1, upd s i 2) ⟨?_, ?_, ?_⟩))
          · rw [cz_st (P := fun c => xm_Lv kd vl (fun c => c = c0) c ∧ st c = 1) ⟨hL, e⟩]
            dsimp only
            rw [g1]
            exact nI_1 _
          · refine lt_s (fun c hcc => ?_) ⟨fun _ => pk_us, fun z => absurd ⟨hL, e⟩ z⟩
            show (_ → upd s i 2 c = 2) ∧ (_ → upd s i 2 c = st c)
            rw [pk_un (by omega)]
            exact g2 c hcc
          · intro c hcc
            show upd s i 2 c = st c
            rw [pk_un (by omega)]
            exact g3 c (by omega)
        · have hn : ¬ (xm_Lv kd vl (fun c => c = c0) i ∧ st i = 1) := fun z => e z.2
          refine nm_r (e' := x) (Int32.add_zero x) (nm_r (nI_1 i) (k (x, s) ⟨?_, lt_s g2 ⟨fun z => absurd z hn, fun _ => g3 i (Nat.le_refl _)⟩, fun c hcc => g3 c (by omega)⟩))
          rw [cz_sf hn]; exact g1
end
end
section
/-! part 08: the component's collection and its counts -/
def xm_OR (kf : Nat → Nat) (rt rt' : Nat → Int32) : Prop := ∀ r, (r < 8 → ∀ c, c < 16 → rt r = nI c → rt' r = nI (kf c)) ∧ ((8 ≤ r ∨ rt r = -1) → rt' r = rt r)
def xm_OS (K : Nat → Prop) (st st' : Nat → Int32) : Prop := ∀ c, (K c → st' c = st c) ∧ (¬ K c → st' c = 0)
def xm_OF (cap : Nat) (kd vl bl vl' : Nat → Int32) : Prop := ∀ p, (p < 2 * cap → kd p = 2 → vl' p = bl (vl p).toNatClampNeg) ∧ (¬ kd p = 2 → vl' p = vl p)
def xm_NX (st kd : Nat → Int32) : Prop := ∀ p, p < 32 → st (p / 2) = 0 → ¬ kd p = 2
/-- fields after a collection, component -/
def xm_OK (K : Nat → Prop) (kf : Nat → Nat) (kd vl kd' vl' : Nat → Int32) : Prop :=
  ∀ p, p < 32 → (K (p / 2) → kd' p = kd p ∧ (kd p = 2 → vl' p = nI (kf (vl p).toNatClampNeg)) ∧ (¬ kd p = 2 → vl' p = vl p)) ∧ (¬ K (p / 2) → ¬ kd' p = 2)
def xm_RI (K : Nat → Prop) (st tg kd vl : Nat → Int32) (i : Nat) (x : Int32) (st' tg' kd' vl' : Nat → Int32) : Prop :=
  x = nI (cz_n (fun c => ¬ st c = 0 ∧ ¬ K c) i) ∧ (∀ c, c < i → (K c → st' c = st c) ∧ (¬ K c → st' c = 0)) ∧ (∀ c, i ≤ c → st' c = st c) ∧ (∀ c, (i ≤ c ∨ K c) → tg' c = tg c) ∧
  (∀ p, (i ≤ p / 2 ∨ K (p / 2) ∨ st (p / 2) = 0) → kd' p = kd p ∧ vl' p = vl p) ∧ (∀ p, p / 2 < i → ¬ K (p / 2) → ¬ st (p / 2) = 0 → kd' p = 0)
section
variable {cap rc : Nat} {ql : Int32} {st tg kd vl rt re qu bl nb : Nat → Int32} {L K : Nat → Prop} {kf : Nat → Nat}
theorem xw_rroots {post : SX → Prop} (hc : cap ≤ 16) (hr : rc ≤ 8) (HR : xm_RK cap rc st rt) (hb : ∀ r, r < 8 → ∀ c, c < cap → rt r = nI c → bl c = nI (kf c))
    (hp : ∀ rt' : Nat → Int32, xm_OR kf rt rt' → post (nI cap, nI rc, ql, st, tg, kd, vl, rt', re, qu, bl, nb)) : wpX_redirectRoots post (nI cap, nI rc, ql, st, tg, kd, vl, rt, re, qu, bl, nb) := by
  unfold wpX_redirectRoots
  dsimp only
  refine loop_0 (fun n i (s : Nat → Int32) => wX_redirectRoots_2 post (nI cap) (nI rc) ql n (nI i) st tg kd vl s re qu bl nb)
    (fun i s => (∀ r, r < i → ∀ c, c < 16 → rt r = nI c → s r = nI (kf c)) ∧ (∀ r, (i ≤ r ∨ rt r = -1) → s r = rt r)) rc rt ?_ ?_ ?_
  · exact ⟨fun r h => absurd h (by omega), fun _ _ => rfl⟩
  · intro n s h
    obtain ⟨h1, h2⟩ := h
    refine br_t (Int32.le_refl _) (hp s (fun r => ⟨fun hr8 c hcc e => ?_, fun z => h2 r (z.imp (fun q => by omega) id)⟩))
    rcases HR r hr8 with q | ⟨hrc, _⟩
    · rw [e] at q
      exact absurd q (xh_nm (by omega))
    · exact h1 r hrc c hcc e
  · intro n i s hi h k
    obtain ⟨h1, h2⟩ := h
    have ii : vp_in (nI i) 8 := xh_in (by omega) (by omega)
    refine br_f (nI_ge hi (by omega)) ⟨ii, ?_⟩
    rw [xh_cl (show i < 1000 by omega), h2 i (Or.inl (Nat.le_refl _))]
    rcases HR i (by omega) with z | ⟨_, d, hd, ed, _⟩
    · rw [z]
      refine br_t xh_m1 (nm_r (nI_1 i) (k s ⟨lt_s h1 (fun c hcc e => ?_), fun r hor => h2 r (hor.imp (fun q => by omega) id)⟩))
      rw [z] at e
      exact absurd e.symm (xh_nm (by omega))
    · rw [ed]
      rw [xh_cl (show d < 1000 by omega), hb i (by omega) d hd ed]
      refine br_f (nI_pos (by omega)) ⟨ii, xh_in (by omega) (by omega), ii, nm_e (nm_r (nI_1 i) (k (upd s i (nI (kf d))) ⟨?_, ?_⟩))⟩
      · refine lt_s (fun r hri c hcc e => ?_) (fun c hcc e => ?_)
        · rw [pk_un (by omega)]; exact h1 r hri c hcc e
        · rw [pk_us, xh_inj (e.symm.trans ed) (by omega) (by omega)]
      · intro r hor
        by_cases e : r = i
        · subst e
          rcases hor with q | q
          · omega
          · rw [ed] at q; exact absurd q (xh_nm (by omega))
        · rw [pk_un e]
          exact h2 r (hor.imp (fun q => by omega) id)
theorem xw_rfields {post : SX → Prop} (hc : cap ≤ 16) (hv : ∀ p, p < 2 * cap → kd p = 2 → ∃ c, c < 16 ∧ vl p = nI c) (hp : ∀ vl' : Nat → Int32, xm_OF cap kd vl bl vl' → post (nI cap, nI rc, ql, st, tg, kd, vl', rt, re, qu, bl, nb)) : wpX_redirectFields post (nI cap, nI rc, ql, st, tg, kd, vl, rt, re, qu, bl, nb) := by
  unfold wpX_redirectFields
  dsimp only
  refine loop_0 (fun n i (s : Nat → Int32) => wX_redirectFields_2 post (nI cap) (nI rc) ql n (nI i) st tg kd s rt re qu bl nb)
    (fun i s => ∀ p, (p < i → kd p = 2 → s p = bl (vl p).toNatClampNeg) ∧ ((i ≤ p ∨ ¬ kd p = 2) → s p = vl p)) (2 * cap) vl ?_ ?_ ?_
  · exact fun p => ⟨fun h => absurd h (by omega), fun _ => rfl⟩
  · intro n s h
    exact br_t (by rw [xh_2]; exact Int32.le_refl _) (hp s (fun p => ⟨(h p).1, fun z => (h p).2 (Or.inr z)⟩))
  · intro n i s hi h k
    have ii : vp_in (nI i) 32 := xh_in (by omega) (by omega)
    refine br_f (by rw [xh_2]; exact nI_ge hi (by omega)) ⟨ii, ?_⟩
    rw [xh_cl (show i < 1000 by omega), (h i).2 (Or.inl (Nat.le_refl _))]
    by_cases hk : kd i = 2
    · obtain ⟨c, hcc, ec⟩ := hv i hi hk
      refine br_t hk ⟨ii, by rw [ec]; exact xh_in hcc (by omega), ii, nm_e (nm_r (nI_1 i) (k _ ?_))⟩
      intro p
      by_cases e : p = i
      · subst e
        exact ⟨fun _ _ => pk_us, fun z => z.elim (fun q => by omega) (fun q => absurd hk q)⟩
      · rw [pk_un e]
        exact ⟨fun q => (h p).1 (by omega), fun q => (h p).2 (q.imp (fun w => by omega) id)⟩
    · refine br_f hk (nm_r (nI_1 i) (k s ?_))
      intro p
      refine ⟨fun q hk' => (h p).1 ?_ hk', fun q => (h p).2 (q.imp (fun w => by omega) id)⟩
      rcases (by omega : p < i ∨ p = i) with e | e
      · exact e
      · subst e; exact absurd hk' hk
theorem xw_kept {post : Int32 → Prop} {c : Nat} (hc16 : c < 16) (hK : (¬ re c = 0 ∧ bl c = nI c) ↔ K c) (h1 : K c → post 1) (h0 : ¬ K c → post 0) : wpX_isKept post (nI cap, nI rc, ql, st, tg, kd, vl, rt, re, qu, bl, nb) (nI c) := by
  unfold wpX_isKept
  dsimp only
  rw [xh_cl (show c < 1000 by omega)]
  have ii : vp_in (nI c) 16 := xh_in (by omega) (by omega)
  exact ⟨ii, br_c (fun e => h0 (fun z => (hK.mpr z).1 e)) (fun e => ⟨ii, br_c (fun b => h1 (hK.mp ⟨e, b⟩)) (fun b => h0 (fun z => b (hK.mpr z).2))⟩)⟩
theorem xm_RI_k {i : Nat} {x : Int32} {st' tg' kd' vl' : Nat → Int32} (R : xm_RI K st tg kd vl i x st' tg' kd' vl') (h : K i ∨ st i = 0) (hKs : K i → ¬ st i = 0) : xm_RI K st tg kd vl (i + 1) x st' tg' kd' vl' := by
  obtain ⟨r1, r2, r3, r4, r5, r6⟩ := R
  have hn : ¬ (¬ st i = 0 ∧ ¬ K i) := fun z => h.elim z.2 z.1
  refine ⟨by rw [cz_sf hn]; exact r1, lt_s r2 ⟨fun _ => r3 i (Nat.le_refl _), fun hk => ?_⟩, fun c hcc => r3 c (by omega), fun c hcc => r4 c (hcc.imp (fun q => by omega) id), fun p hcc => r5 p (hcc.imp (fun q => by omega) id), fun p hpi hk hs => ?_⟩
  · rw [r3 i (Nat.le_refl _)]
    exact h.resolve_left hk
  · rcases (by omega : p / 2 < i ∨ p / 2 = i) with e | e
    · exact r6 p e hk hs
    · rw [e] at hk hs
      exact absurd h (fun z => z.elim hk hs)
theorem xm_RI_r {i : Nat} {x : Int32} {st' tg' kd' vl' : Nat → Int32} (R : xm_RI K st tg kd vl i x st' tg' kd' vl') (hK : ¬ K i) (hs : ¬ st i = 0) :
    xm_RI K st tg kd vl (i + 1) (x + 1) (upd st' i 0) (upd tg' i 0) (upd (upd kd' (2 * i) 0) (2 * i + 1) 0) (upd (upd vl' (2 * i) 0) (2 * i + 1) 0) := by
  obtain ⟨r1, r2, r3, r4, r5, r6⟩ := R
  refine ⟨?_, ?_, ?_, ?_, ?_, ?_⟩
  · rw [cz_st (P := fun c => ¬ st c = 0 ∧ ¬ K c) ⟨hs, hK⟩, r1]
    exact nI_1 _
  · refine lt_s (fun c hcc => ?_) ⟨fun z => absurd z hK, fun _ => pk_us⟩
    rw [pk_un (by omega)]
    exact r2 c hcc
  · intro c hcc
    rw [pk_un (by omega)]
    exact r3 c (by omega)
  · intro c hcc
    have e : c ≠ i := fun e => by
      subst e
      rcases hcc with q | q
      · omega
      · exact hK q
    rw [pk_un e]
    exact r4 c (hcc.imp (fun q => by omega) id)
  · intro p hcc
    have e : ¬ p / 2 = i := fun e => by
      rw [e] at hcc
      rcases hcc with q | q | q
      · omega
      · exact hK q
      · exact hs q
    rw [xm_u2b e, xm_u2b e]
    exact r5 p (hcc.imp (fun q => by omega) id)
  · intro p hpi hk hs'
    by_cases e : p / 2 = i
    · exact xm_u2a e
    · rw [xm_u2b e]
      exact r6 p (by omega) hk hs'
theorem xw_remove {post : Int32 → SX → Prop} (hc : cap ≤ 16) (hK : ∀ c, c < cap → ((¬ re c = 0 ∧ bl c = nI c) ↔ K c)) (hKs : ∀ c, K c → c < cap ∧ ¬ st c = 0) (hz : ∀ c, cap ≤ c → st c = 0)
    (hp : ∀ st' tg' kd' vl' : Nat → Int32, xm_OS K st st' → (∀ c, K c → tg' c = tg c) → (∀ p, (K (p / 2) ∨ st (p / 2) = 0) → kd' p = kd p ∧ vl' p = vl p) → (∀ p, ¬ K (p / 2) → ¬ st (p / 2) = 0 → kd' p = 0) →
      post (nI (cz_n (fun c => ¬ st c = 0 ∧ ¬ K c) 16)) (nI cap, nI rc, ql, st', tg', kd', vl', rt, re, qu, bl, nb)) : wpX_removeUnkept post (nI cap, nI rc, ql, st, tg, kd, vl, rt, re, qu, bl, nb) := by
  unfold wpX_removeUnkept
  dsimp only
  refine loop_0 (fun n i (t : Int32 × (Nat → Int32) × (Nat → Int32) × (Nat → Int32) × (Nat → Int32)) => wX_removeUnkept_4 post n t.1 (nI i) (nI cap) (nI rc) ql t.2.1 t.2.2.1 t.2.2.2.1 t.2.2.2.2 rt re qu bl nb)
    (fun i t => xm_RI K st tg kd vl i t.1 t.2.1 t.2.2.1 t.2.2.2.1 t.2.2.2.2) cap (0, st, tg, kd, vl) ?_ ?_ ?_
  · exact ⟨rfl, fun c h => absurd h (by omega), fun _ _ => rfl, fun _ _ => rfl, fun _ _ => ⟨rfl, rfl⟩, fun p h => absurd h (by omega)⟩
  · intro n t R
    obtain ⟨x, s1, t1, k1, v1⟩ := t
    dsimp only at R
    obtain ⟨r1, r2, r3, r4, r5, r6⟩ := R
    refine br_t (Int32.le_refl _) ?_
    have e : cz_n (fun c => ¬ st c = 0 ∧ ¬ K c) 16 = cz_n (fun c => ¬ st c = 0 ∧ ¬ K c) cap := cz_ext 16 hc (fun c hcc z => z.1 (hz c hcc))
    show post x _
    rw [r1, ← e]
    refine hp s1 t1 k1 v1 (fun c => ?_) (fun c hk => r4 c (Or.inr hk)) (fun p hp => r5 p (Or.inr hp)) (fun p hk hs => r6 p ?_ hk hs)
    · rcases Nat.lt_or_ge c cap with hcc | hcc
      · exact r2 c hcc
      · exact ⟨fun _ => r3 c hcc, fun _ => by rw [r3 c hcc]; exact hz c hcc⟩
    · rcases Nat.lt_or_ge (p / 2) cap with q | q
      · exact q
      · exact absurd (hz _ q) hs
  · intro n i t hi R k
    obtain ⟨x, s1, t1, k1, v1⟩ := t
    dsimp only at R
    have ii : vp_in (nI i) 16 := xh_in (by omega) (by omega)
    refine br_f (nI_ge hi (by omega)) ⟨ii, ?_⟩
    dsimp only
    rw [xh_cl (show i < 1000 by omega), R.2.2.1 i (Nat.le_refl _)]
    by_cases hs : st i = 0
    · exact br_t hs (nm_r (nI_1 i) (k (x, s1, t1, k1, v1) (xm_RI_k R (Or.inr hs) (fun z => (hKs i z).2))))
    · refine br_f hs (xw_kept (K := K) (by omega) (hK i hi) (fun hk => br_f xh_10 (nm_r (nI_1 i) (k (x, s1, t1, k1, v1) (xm_RI_k R (Or.inl hk) (fun _ => hs))))) (fun hk => br_t rfl ⟨ii, nm_e ⟨ii, nm_e ?_⟩⟩))
      refine xw_clearF (by omega) ?_
      exact nm_e (nm_r (nI_1 i) (k (x + 1, upd s1 i 0, upd t1 i 0, upd (upd k1 (2 * i) 0) (2 * i + 1) 0, upd (upd v1 (2 * i) 0) (2 * i + 1) 0) (xm_RI_r R hk hs)))
theorem xw_collect {post : Int32 → SX → Prop} (hc : cap ≤ 16) (hr : rc ≤ 8) (H : xm_HK cap st kd vl) (HR : xm_RK cap rc st rt) (N : xm_NX st kd)
    (hp : ∀ (q' : Int32) (rt' st' tg' kd' vl' re' qu' bl' nb' : Nat → Int32), xm_PP cap st tg kd vl (xm_Lv kd vl (xm_Rt rt)) bl' →
      xm_OR (xm_kf (xm_Lv kd vl (xm_Rt rt)) (xm_Bi st tg kd vl)) rt rt' → xm_OS (xm_Kp (xm_Lv kd vl (xm_Rt rt)) (xm_Bi st tg kd vl)) st st' → (∀ c, xm_Kp (xm_Lv kd vl (xm_Rt rt)) (xm_Bi st tg kd vl) c → tg' c = tg c) →
      xm_OK (xm_Kp (xm_Lv kd vl (xm_Rt rt)) (xm_Bi st tg kd vl)) (xm_kf (xm_Lv kd vl (xm_Rt rt)) (xm_Bi st tg kd vl)) kd vl kd' vl' →
      post (nI (cz_n (fun c => ¬ st c = 0 ∧ ¬ xm_Kp (xm_Lv kd vl (xm_Rt rt)) (xm_Bi st tg kd vl) c) 16)) (nI cap, nI rc, q', st', tg', kd', vl', rt', re', qu', bl', nb')) : wpX_collect post (nI cap, nI rc, ql, st, tg, kd, vl, rt, re, qu, bl, nb) := by
  have KL := xm_LK_of hc H (xm_Rt_of hc HR)
  unfold wpX_collect
  dsimp only
  refine xw_part hc hr H HR ?_
  intro q1 re1 qu1 bl1 nb1 HL PP
  dsimp only
  refine xw_rroots hc hr HR (kf := xm_kf (xm_Lv kd vl (xm_Rt rt)) (xm_Bi st tg kd vl)) (fun r hr8 c hcc e => (xm_BK_kf PP.2 hcc (xm_Lv_s ⟨by omega, r, hr8, e⟩)).1) ?_
  intro rt1 hrt
  dsimp only
  have hcell : ∀ p, p < 2 * cap → kd p = 2 → ¬ st (p / 2) = 0 := fun p hp2 hk z => N p (by omega) z hk
  refine xw_rfields hc (fun p hp2 hk => ?_) ?_
  · obtain ⟨c, hcc, ec, _⟩ := xm_HK2 H (by omega) (hcell p hp2 hk) hk
    exact ⟨c, by omega, ec⟩
  intro vl1 hvl
  dsimp only
  refine xw_remove (K := xm_Kp (xm_Lv kd vl (xm_Rt rt)) (xm_Bi st tg kd vl)) hc (fun c hcc => ?_) (fun c hk => KL.1 c hk.1) H.1 ?_
  · rw [← xm_Kp_iff hc PP.2 hcc, HL c hcc]
  intro st2 tg2 kd2 vl2 o1 o2 o3 o4
  refine hp q1 rt1 st2 tg2 kd2 vl2 re1 qu1 bl1 nb1 PP hrt o1 o2 ?_
  intro p hp32
  refine ⟨fun hk => ?_, fun hk => ?_⟩
  · obtain ⟨e1, e2⟩ := o3 p (Or.inl hk)
    have hpc := (KL.1 _ hk.1).1
    refine ⟨e1, fun h2 => ?_, fun h2 => ?_⟩
    · rw [e2, (hvl p).1 (by omega) h2]
      obtain ⟨c, hcc, ec, lc⟩ := xm_LK2 KL hp32 hk.1 h2
      rw [ec, xh_cl (by omega)]
      exact (xm_BK_kf PP.2 hcc lc).1
    · rw [e2, (hvl p).2 h2]
  · by_cases hs : st (p / 2) = 0
    · rw [(o3 p (Or.inr hs)).1]
      exact N p hp32 hs
    · rw [o4 p hk hs]
      decide
/-! counts -/
theorem xw_countAll {post : Int32 → Prop} {w : Int32} (hc : cap ≤ 16) (hz : ∀ c, cap ≤ c → ¬ st c = w) (hp : post (nI (cz_n (fun c => st c = w) 16))) : wpX_countAll post (nI cap, nI rc, ql, st, tg, kd, vl, rt, re, qu, bl, nb) w := by
  unfold wpX_countAll
  dsimp only
  refine loop_0 (fun n i (x : Int32) => wX_countAll_4 post w (nI cap) (nI rc) ql st tg kd vl rt re qu bl nb n x (nI i)) (fun i x => x = nI (cz_n (fun c => st c = w) i)) cap 0 ?_ ?_ ?_
  · rfl
  · intro n x h
    refine br_t (Int32.le_refl _) ?_
    rw [cz_ext 16 hc hz] at hp
    rw [show x = _ from h]
    exact hp
  · intro n i x hi h k
    refine br_f (nI_ge hi (by omega)) ⟨xh_in (by omega) (by omega), ?_⟩
    rw [xh_cl (show i < 1000 by omega)]
    refine br_c (fun e => nm_e (nm_r (nI_1 i) (k _ ?_))) (fun e => nm_r (nI_1 i) (k _ ?_))
    · show x + 1 = _
      rw [cz_st (P := fun c => st c = w) e, show x = _ from h]; exact nI_1 _
    · show x = _
      rw [cz_sf (P := fun c => st c = w) e]; exact h
theorem xw_countLive {post : Int32 → SX → Prop} {w : Int32} (hc : cap ≤ 16) (hr : rc ≤ 8) (H : xm_HK cap st kd vl) (HR : xm_RK cap rc st rt)
    (hp : ∀ (q' : Int32) (re' qu' : Nat → Int32), post (nI (cz_n (fun c => xm_Lv kd vl (xm_Rt rt) c ∧ st c = w) 16)) (nI cap, nI rc, q', st, tg, kd, vl, rt, re', qu', bl, nb)) : wpX_countLive post (nI cap, nI rc, ql, st, tg, kd, vl, rt, re, qu, bl, nb) w := by
  have KL := xm_LK_of hc H (xm_Rt_of hc HR)
  unfold wpX_countLive
  dsimp only
  refine xw_markLive hc hr H HR ?_
  intro q1 re1 qu1 HL
  dsimp only
  refine loop_0 (fun n i (x : Int32) => wX_countLive_8 post w (nI cap) (nI rc) q1 st tg kd vl rt re1 qu1 bl nb n x (nI i)) (fun i x => x = nI (cz_n (fun c => xm_Lv kd vl (xm_Rt rt) c ∧ st c = w) i)) cap 0 ?_ ?_ ?_
  · rfl
  · intro n x h
    refine br_t (Int32.le_refl _) ?_
    have := hp q1 re1 qu1
    rw [cz_ext 16 hc (fun c hcc z => absurd (KL.1 c z.1).1 (by omega))] at this
    rw [show x = _ from h]
    exact this
  · intro n i x hi h k
    refine br_f (nI_ge hi (by omega)) ⟨xh_in (by omega) (by omega), ?_⟩
    rw [xh_cl (show i < 1000 by omega)]
    refine br_c (fun e => nm_r (nI_1 i) (k _ ?_)) (fun e => ⟨xh_in (by omega) (by omega), br_c (fun e' => nm_e (nm_r (nI_1 i) (k _ ?_))) (fun e' => nm_r (nI_1 i) (k _ ?_))⟩)
    · show x = _
      rw [cz_sf (P := fun c => xm_Lv kd vl (xm_Rt rt) c ∧ st c = w) (fun z => (HL i hi).mpr z.1 e)]; exact h
    · show x + 1 = _
      rw [cz_st (P := fun c => xm_Lv kd vl (xm_Rt rt) c ∧ st c = w) ⟨(HL i hi).mp e, e'⟩, show x = _ from h]; exact nI_1 _
    · show x = _
      rw [cz_sf (P := fun c => xm_Lv kd vl (xm_Rt rt) c ∧ st c = w) (fun z => e' z.2)]; exact h
theorem xw_countClasses {post : Int32 → SX → Prop} (hc : cap ≤ 16) (hr : rc ≤ 8) (H : xm_HK cap st kd vl) (HR : xm_RK cap rc st rt)
    (hp : ∀ (q' : Int32) (re' qu' bl' nb' : Nat → Int32), post (nI (cz_n (fun c => st c = 2 ∧ xm_Kp (xm_Lv kd vl (xm_Rt rt)) (xm_Bi st tg kd vl) c) 16)) (nI cap, nI rc, q', st, tg, kd, vl, rt, re', qu', bl', nb')) : wpX_countClasses post (nI cap, nI rc, ql, st, tg, kd, vl, rt, re, qu, bl, nb) := by
  have KL := xm_LK_of hc H (xm_Rt_of hc HR)
  unfold wpX_countClasses
  dsimp only
  refine xw_part hc hr H HR ?_
  intro q1 re1 qu1 bl1 nb1 HL PP
  dsimp only
  refine loop_0 (fun n i (x : Int32) => wX_countClasses_8 post (nI cap) (nI rc) q1 st tg kd vl rt re1 qu1 bl1 nb1 n x (nI i)) (fun i x => x = nI (cz_n (fun c => st c = 2 ∧ xm_Kp (xm_Lv kd vl (xm_Rt rt)) (xm_Bi st tg kd vl) c) i)) cap 0 ?_ ?_ ?_
  · rfl
  · intro n x h
    refine br_t (Int32.le_refl _) ?_
    have := hp q1 re1 qu1 bl1 nb1
    rw [cz_ext 16 hc (fun c hcc z => absurd (KL.1 c z.2.1).1 (by omega))] at this
    rw [show x = _ from h]
    exact this
  · intro n i x hi h k
    refine br_f (nI_ge hi (by omega)) ⟨xh_in (by omega) (by omega), ?_⟩
    rw [xh_cl (show i < 1000 by omega)]
    have hK : (¬ re1 i = 0 ∧ bl1 i = nI i) ↔ xm_Kp (xm_Lv kd vl (xm_Rt rt)) (xm_Bi st tg kd vl) i := by rw [← xm_Kp_iff hc PP.2 hi, HL i hi]
    refine br_c (fun e => xw_kept (by omega) hK (fun hk => br_f xh_10 (nm_e (nm_r (nI_1 i) (k _ ?_)))) (fun hk => br_t rfl (nm_r (nI_1 i) (k _ ?_)))) (fun e => nm_r (nI_1 i) (k _ ?_))
    · show x + 1 = _
      rw [cz_st (P := fun c => st c = 2 ∧ xm_Kp (xm_Lv kd vl (xm_Rt rt)) (xm_Bi st tg kd vl) c) ⟨e, hk⟩, show x = _ from h]; exact nI_1 _
    · show x = _
      rw [cz_sf (P := fun c => st c = 2 ∧ xm_Kp (xm_Lv kd vl (xm_Rt rt)) (xm_Bi st tg kd vl) c) (fun z => hk z.2)]; exact h
    · show x = _
      rw [cz_sf (P := fun c => st c = 2 ∧ xm_Kp (xm_Lv kd vl (xm_Rt rt)) (xm_Bi st tg kd vl) c) (fun z => e z.1)]; exact h
end
end
section
/-! part 09: the reference's tests and larger methods -/
section
variable {cap rc : Nat} {st tg kd vl rt mk rl : Nat → Int32} {L : Nat → Prop} {B : Nat → Nat → Prop}
theorem yw_brB {post : Int32 → Prop} {v : Int32} (h : xm_bad rc v) (hp : post 1) : wpY_badRoot post (nI cap, nI rc, rt, st, tg, kd, vl, mk, rl) v := by
  unfold wpY_badRoot
  dsimp only
  exact br_c (fun _ => hp) (fun hn => br_f (Int32.not_lt.mpr (h.resolve_left hn)) hp)
theorem yw_brG {post : Int32 → Prop} {j : Nat} (hr : rc ≤ 8) (hj : j < rc) (hp : post 0) : wpY_badRoot post (nI cap, nI rc, rt, st, tg, kd, vl, mk, rl) (nI j) := by
  unfold wpY_badRoot
  dsimp only
  exact br_f (nI_pos (by omega)) (br_t (nI_lt hj (by omega)) hp)
theorem yw_2B {A D D' : Prop} {a b : Int32} (hr : rc ≤ 8) (h : xm_bad rc a ∨ xm_bad rc b) (hD : D) (hD' : D') :
    wpY_badRoot (fun r => ((r = 0 → wpY_badRoot (fun r' => ((r' = 0 → A) ∧ (¬ r' = 0 → D))) (nI cap, nI rc, rt, st, tg, kd, vl, mk, rl) b) ∧ (¬ r = 0 → D'))) (nI cap, nI rc, rt, st, tg, kd, vl, mk, rl) a := by
  rcases xm_ix hr a with ha | ⟨i, hi, rfl⟩
  · exact yw_brB ha (br_f xh_10 hD')
  · refine yw_brG hr hi (br_t rfl ?_)
    rcases h with h | h
    · exact absurd h (xm_nbad hr hi)
    · exact yw_brB h (br_f xh_10 hD)
theorem yw_2G {A D D' : Prop} {i j : Nat} (hr : rc ≤ 8) (hi : i < rc) (hj : j < rc) (hA : A) :
    wpY_badRoot (fun r => ((r = 0 → wpY_badRoot (fun r' => ((r' = 0 → A) ∧ (¬ r' = 0 → D))) (nI cap, nI rc, rt, st, tg, kd, vl, mk, rl) (nI j)) ∧ (¬ r = 0 → D'))) (nI cap, nI rc, rt, st, tg, kd, vl, mk, rl) (nI i) :=
  yw_brG hr hi (br_t rfl (yw_brG hr hj (br_t rfl hA)))
theorem yw_kdB {post : Int32 → Prop} {a f : Int32} (h : xm_bad rc a) (hp : post (-1)) : wpY_kind post (nI cap, nI rc, rt, st, tg, kd, vl, mk, rl) a f := by
  unfold wpY_kind
  dsimp only
  exact yw_brB h (br_f xh_10 hp)
theorem yw_kdF {post : Int32 → Prop} {j : Nat} {f : Int32} (hr : rc ≤ 8) (hj : j < rc) (h0 : ¬ f = 0) (h1 : ¬ f = 1) (hp : post (-2)) : wpY_kind post (nI cap, nI rc, rt, st, tg, kd, vl, mk, rl) (nI j) f := by
  unfold wpY_kind
  dsimp only
  refine yw_brG hr hj (br_t rfl ?_)
  unfold wpY_badField
  dsimp only
  exact br_f h0 (br_f h1 (br_f xh_10 hp))
theorem yw_bfG {post : Int32 → Prop} {f : Int32} (hf : f = 0 ∨ f = 1) (hp : post 0) : wpY_badField post (nI cap, nI rc, rt, st, tg, kd, vl, mk, rl) f := by
  unfold wpY_badField
  dsimp only
  exact br_c (fun _ => hp) (fun h0 => br_t (hf.resolve_left h0) hp)
theorem yw_kdN {post : Int32 → Prop} {j : Nat} {f : Int32} (hr : rc ≤ 8) (hj : j < rc) (hf : f = 0 ∨ f = 1) (h : rt j = -1) (hp : post (-3)) : wpY_kind post (nI cap, nI rc, rt, st, tg, kd, vl, mk, rl) (nI j) f := by
  unfold wpY_kind
  dsimp only
  refine yw_brG hr hj (br_t rfl (yw_bfG hf (br_t rfl ?_)))
  rw [xh_cl (show j < 1000 by omega), h]
  exact ⟨xh_in (by omega) (by omega), br_f xh_m1' hp⟩
theorem xm_pl {c e : Nat} : (2 : Int32) * nI c + nI e = nI (2 * c + e) := by rw [xh_2, nI_add]
theorem xm_f2 {e : Nat} (he : e < 2) : nI e = 0 ∨ nI e = 1 := by
  rcases (by omega : e = 0 ∨ e = 1) with h | h
  · subst h; exact Or.inl rfl
  · subst h; exact Or.inr rfl
theorem yw_kdG {post : Int32 → Prop} {j c e : Nat} (hr : rc ≤ 8) (hj : j < rc) (he : e < 2) (hc : c < 16) (h : rt j = nI c) (hp : post (kd (2 * c + e))) : wpY_kind post (nI cap, nI rc, rt, st, tg, kd, vl, mk, rl) (nI j) (nI e) := by
  unfold wpY_kind
  dsimp only
  refine yw_brG hr hj (br_t rfl (yw_bfG (xm_f2 he) (br_t rfl ?_)))
  rw [xh_cl (show j < 1000 by omega), h, xm_pl, xh_cl (show 2 * c + e < 1000 by omega)]
  exact ⟨xh_in (by omega) (by omega), br_t (nI_pos' (by omega)) ⟨xh_in (by omega) (by omega), xh_in (by omega) (by omega), hp⟩⟩
/-! freezeReach -/
theorem yw_frG {post : Int32 → SY → Prop} {j c0 : Nat} (hc : cap ≤ 16) (hr : rc ≤ 8) (H : xm_HK cap st kd vl) (hj : j < rc) (h : rt j = nI c0) (hc0 : c0 < cap) (hs0 : ¬ st c0 = 0)
    (hp : ∀ st' mk' : Nat → Int32, xm_FO (xm_Lv kd vl (fun c => c = c0)) st st' → post (nI (cz_n (fun c => xm_Lv kd vl (fun c => c = c0) c ∧ st c = 1) 16)) (nI cap, nI rc, rt, st', tg, kd, vl, mk', rl)) : wpY_freezeReach post (nI cap, nI rc, rt, st, tg, kd, vl, mk, rl) (nI j) := by
  have hS : ∀ c, c = c0 → c < cap ∧ ¬ st c = 0 := fun c e => by subst e; exact ⟨hc0, hs0⟩
  have K := xm_LK_of (S := fun c => c = c0) hc H hS
  unfold wpY_freezeReach
  dsimp only
  refine yw_brG hr hj (br_t rfl ?_)
  rw [xh_cl (show j < 1000 by omega), h]
  refine ⟨xh_in (by omega) (by omega), br_t (nI_pos' (by omega)) ?_⟩
  refine loop_0 (fun n i (s : Nat → Int32) => wY_freezeReach_24 post (nI j) (nI cap) (nI rc) n (nI i) rt st tg kd vl s rl) (fun i s => ∀ c, c < i → (¬ s c = 0 ↔ c = c0)) 16 mk ?_ ?_ ?_
  · intro c h; omega
  · intro n s g
    refine br_t xh_g16 ?_
    refine yw_spread hc K (fun c e => by subst e; omega) g ?_
    intro mk1 HM
    dsimp only
    refine loop_0 (fun n i (t : Int32 × (Nat → Int32)) => wY_freezeReach_65 post (nI cap) (nI rc) n t.1 (nI i) rt t.2 tg kd vl mk1 rl)
      (fun i t => t.1 = nI (cz_n (fun c => xm_Lv kd vl (fun c => c = c0) c ∧ st c = 1) i) ∧ (∀ c, c < i → (xm_Lv kd vl (fun c => c = c0) c ∧ st c = 1 → t.2 c = 2) ∧ (¬ (xm_Lv kd vl (fun c => c = c0) c ∧ st c = 1) → t.2 c = st c)) ∧ (∀ c, i ≤ c → t.2 c = st c)) 16 (0, st) ?_ ?_ ?_
    · exact ⟨rfl, fun c h => absurd h (by omega), fun _ _ => rfl⟩
    · intro n t g
      obtain ⟨x, s⟩ := t
      obtain ⟨g1, g2, g3⟩ := g
      dsimp only at g1 g2 g3
      refine br_t xh_g16 ?_
      rw [g1]
      refine hp s mk1 (fun c => ?_)
      rcases Nat.lt_or_ge c 16 with hcc | hcc
      · exact g2 c hcc
      · exact ⟨fun z => absurd (K.1 c z.1).1 (by omega), fun _ => g3 c hcc⟩
    · intro n i t hi g k
      obtain ⟨x, s⟩ := t
      obtain ⟨g1, g2, g3⟩ := g
      dsimp only at g1 g2 g3
      have ii : vp_in (nI i) 16 := xh_in (by omega) (by omega)
      refine br_f (xh_l16 hi) ⟨ii, ?_⟩
      dsimp only
      rw [xh_cl (show i < 1000 by omega), g3 i (Nat.le_refl _)]
      by_cases hz : mk1 i = 0
      · have hnL : ¬ (xm_Lv kd vl (fun c => c = c0) i ∧ st i = 1) := fun z => (HM i hi).mpr z.1 hz
        refine br_t hz (nm_r (nI_1 i) (k (x, s) ⟨?_, lt_s g2 ⟨fun z => absurd z hnL, fun _ => g3 i (Nat.le_refl _)⟩, fun c hcc => g3 c (by omega)⟩))
        rw [cz_sf hnL]; exact g1
      · have hL := (HM i hi).mp hz
        refine br_f hz ⟨ii, br_c (fun e => ⟨ii, nm_e ?_⟩) (fun e => ?_)⟩
        · refine nm_e (nm_r (nI_1 i) (k (x + 1, upd s i 2) ⟨?_, ?_, ?_⟩))
          · rw [cz_st (P := fun c => xm_Lv kd vl (fun c => c = c0) c ∧ st c = 1) ⟨hL, e⟩]
            dsimp only
            rw [g1]
            exact nI_1 _
          · refine lt_s (fun c hcc => ?_) ⟨fun _ => pk_us, fun z => absurd ⟨hL, e⟩ z⟩
            show (_ → upd s i 2 c = 2) ∧ (_ → upd s i 2 c = st c)
            rw [pk_un (by omega)]
            exact g2 c hcc
          · intro c hcc
            show upd s i 2 c = st c
            rw [pk_un (by omega)]
            exact g3 c (by omega)
        · have hn : ¬ (xm_Lv kd vl (fun c => c = c0) i ∧ st i = 1) := fun z => e z.2
          refine nm_r (nI_1 i) (k (x, s) ⟨?_, lt_s g2 ⟨fun z => absurd z hn, fun _ => g3 i (Nat.le_refl _)⟩, fun c hcc => g3 c (by omega)⟩)
          rw [cz_sf hn]; exact g1
  · intro n i s hi g k
    have ii : vp_in (nI i) 16 := xh_in (by omega) (by omega)
    refine br_f (xh_l16 hi) ⟨xh_in (by omega) (by omega), ?_⟩
    rw [xh_cl (show j < 1000 by omega), h]
    by_cases e : i = c0
    · subst e
      refine br_t rfl ⟨ii, xh_u1 i (nm_r (nI_1 i) (k _ (lt_s (fun c hcc => ?_) ?_)))⟩
      · rw [pk_un (by omega)]; exact g c hcc
      · rw [pk_us]; exact ⟨fun _ => rfl, fun _ => xh_10⟩
    · refine br_f (fun z => e (xh_inj z (by omega) (by omega))) ⟨ii, xh_u0 i (nm_r (nI_1 i) (k _ (lt_s (fun c hcc => ?_) ?_)))⟩
      · rw [pk_un (by omega)]; exact g c hcc
      · rw [pk_us]; exact ⟨fun z => absurd rfl z, fun z => absurd z e⟩
/-! collect -/
def ym_OV (L : Nat → Prop) (kf : Nat → Nat) (kd vl vl' : Nat → Int32) : Prop := ∀ p, p < 32 → L (p / 2) → (kd p = 2 → vl' p = nI (kf (vl p).toNatClampNeg)) ∧ (¬ kd p = 2 → vl' p = vl p)
theorem yw_collect {post : Int32 → SY → Prop} (hc : cap ≤ 16) (H : xm_HK cap st kd vl) (HR : xm_RK cap rc st rt)
    (hp : ∀ rt' st' vl' mk' rl' : Nat → Int32, xm_OR (xm_kf (xm_Lv kd vl (xm_Rt rt)) (xm_Bi st tg kd vl)) rt rt' → xm_OS (xm_Kp (xm_Lv kd vl (xm_Rt rt)) (xm_Bi st tg kd vl)) st st' →
      ym_OV (xm_Lv kd vl (xm_Rt rt)) (xm_kf (xm_Lv kd vl (xm_Rt rt)) (xm_Bi st tg kd vl)) kd vl vl' →
      post (nI (cz_n (fun c => ¬ st c = 0 ∧ ¬ xm_Kp (xm_Lv kd vl (xm_Rt rt)) (xm_Bi st tg kd vl) c) 16)) (nI cap, nI rc, rt', st', tg, kd, vl', mk', rl')) : wpY_collect post (nI cap, nI rc, rt, st, tg, kd, vl, mk, rl) := by
  have KL := xm_LK_of hc H (xm_Rt_of hc HR)
  have hL16 : ∀ c, xm_Lv kd vl (xm_Rt rt) c → c < 16 := fun c h => by have := (KL.1 c h).1; omega
  unfold wpY_collect
  dsimp only
  refine yw_live hc H HR ?_
  intro mk1 HM
  dsimp only
  refine yw_alike hc H ?_
  intro rl1 HB
  dsimp only
  refine loop_0 (fun n i (s : Nat → Int32) => wY_collect_10 post (nI cap) (nI rc) n (nI i) s st tg kd vl mk1 rl1)
    (fun i s => (∀ r, r < i → ∀ c, c < 16 → rt r = nI c → s r = nI (xm_kf (xm_Lv kd vl (xm_Rt rt)) (xm_Bi st tg kd vl) c)) ∧ (∀ r, (i ≤ r ∨ rt r = -1) → s r = rt r)) 8 rt ?_ ?_ ?_
  · exact ⟨fun r h => absurd h (by omega), fun _ _ => rfl⟩
  · intro n rt1 h
    have hOR : xm_OR (xm_kf (xm_Lv kd vl (xm_Rt rt)) (xm_Bi st tg kd vl)) rt rt1 := fun r => ⟨fun h8 => h.1 r h8, fun z => h.2 r z⟩
    refine br_t xh_g8 ?_
    refine loop_0 (fun n i (s : Nat → Int32) => wY_collect_49 post (nI cap) (nI rc) n (nI i) rt1 st tg kd s mk1 rl1)
      (fun i s => ∀ p, (p < i → xm_Lv kd vl (xm_Rt rt) (p / 2) → kd p = 2 → s p = nI (xm_kf (xm_Lv kd vl (xm_Rt rt)) (xm_Bi st tg kd vl) (vl p).toNatClampNeg)) ∧ ((i ≤ p ∨ ¬ kd p = 2) → s p = vl p)) 32 vl ?_ ?_ ?_
    · exact fun p => ⟨fun h => absurd h (by omega), fun _ => rfl⟩
    · intro n vl1 g
      have hOV : ym_OV (xm_Lv kd vl (xm_Rt rt)) (xm_kf (xm_Lv kd vl (xm_Rt rt)) (xm_Bi st tg kd vl)) kd vl vl1 := fun p hp32 hL => ⟨fun hk => (g p).1 hp32 hL hk, fun hk => (g p).2 (Or.inr hk)⟩
      refine br_t xh_g32 ?_
      refine loop_0 (fun n i (t : Int32 × (Nat → Int32)) => wY_collect_102 post (nI cap) (nI rc) n t.1 (nI i) rt1 t.2 tg kd vl1 mk1 rl1)
        (fun i t => t.1 = nI (cz_n (fun c => ¬ st c = 0 ∧ ¬ xm_Kp (xm_Lv kd vl (xm_Rt rt)) (xm_Bi st tg kd vl) c) i) ∧ (∀ c, c < i → (xm_Kp (xm_Lv kd vl (xm_Rt rt)) (xm_Bi st tg kd vl) c → t.2 c = st c) ∧ (¬ xm_Kp (xm_Lv kd vl (xm_Rt rt)) (xm_Bi st tg kd vl) c → t.2 c = 0)) ∧ (∀ c, i ≤ c → t.2 c = st c)) 16 (0, st) ?_ ?_ ?_
      · exact ⟨rfl, fun c h => absurd h (by omega), fun _ _ => rfl⟩
      · intro n t q
        obtain ⟨x, s⟩ := t
        obtain ⟨q1, q2, q3⟩ := q
        dsimp only at q1 q2 q3
        refine br_t xh_g16 ?_
        rw [q1]
        refine hp rt1 s vl1 mk1 rl1 hOR (fun c => ?_) hOV
        rcases Nat.lt_or_ge c 16 with hcc | hcc
        · exact q2 c hcc
        · exact ⟨fun z => absurd (hL16 c z.1) (by omega), fun _ => by rw [q3 c hcc]; exact H.1 c (by omega)⟩
      · intro n i t hi q k
        obtain ⟨x, s⟩ := t
        obtain ⟨q1, q2, q3⟩ := q
        dsimp only at q1 q2 q3
        have ii : vp_in (nI i) 16 := xh_in (by omega) (by omega)
        have hrem : ¬ st i = 0 → ¬ xm_Kp (xm_Lv kd vl (xm_Rt rt)) (xm_Bi st tg kd vl) i → wY_collect_135 post (wY_collect_102 post (nI cap) (nI rc) n) x (nI i) (nI cap) (nI rc) rt1 s tg kd vl1 mk1 rl1 := by
          intro hs hk
          unfold wY_collect_135
          rw [xh_cl (show i < 1000 by omega)]
          refine ⟨ii, nm_e (nm_e (nm_r (nI_1 i) (k (x + 1, upd s i 0) ⟨?_, ?_, ?_⟩)))⟩
          · rw [cz_st (P := fun c => ¬ st c = 0 ∧ ¬ xm_Kp (xm_Lv kd vl (xm_Rt rt)) (xm_Bi st tg kd vl) c) ⟨hs, hk⟩]
            dsimp only
            rw [q1]
            exact nI_1 _
          · refine lt_s (fun c hcc => ?_) ⟨fun z => absurd z hk, fun _ => pk_us⟩
            show (_ → upd s i 0 c = st c) ∧ (_ → upd s i 0 c = 0)
            rw [pk_un (by omega)]
            exact q2 c hcc
          · intro c hcc
            show upd s i 0 c = st c
            rw [pk_un (by omega)]
            exact q3 c (by omega)
        have hkeep : (st i = 0 ∨ xm_Kp (xm_Lv kd vl (xm_Rt rt)) (xm_Bi st tg kd vl) i) → wY_collect_102 post (nI cap) (nI rc) n x (nI (i + 1)) rt1 s tg kd vl1 mk1 rl1 := by
          intro hor
          refine k (x, s) ⟨?_, lt_s q2 ⟨fun _ => q3 i (Nat.le_refl _), fun hk => ?_⟩, fun c hcc => q3 c (by omega)⟩
          · rw [cz_sf (P := fun c => ¬ st c = 0 ∧ ¬ xm_Kp (xm_Lv kd vl (xm_Rt rt)) (xm_Bi st tg kd vl) c) (fun z => hor.elim z.1 z.2)]
            exact q1
          · show s i = 0
            rw [q3 i (Nat.le_refl _)]
            exact hor.resolve_right hk
        refine br_f (xh_l16 hi) ⟨ii, ?_⟩
        dsimp only
        rw [xh_cl (show i < 1000 by omega), q3 i (Nat.le_refl _)]
        by_cases hs : st i = 0
        · exact br_t hs (nm_r (nI_1 i) (hkeep (Or.inl hs)))
        · by_cases hm : mk1 i = 0
          · exact br_f hs ⟨ii, br_t hm (hrem hs (fun z => (HM i hi).mpr z.1 hm))⟩
          · have hLi := (HM i hi).mp hm
            refine br_f hs ⟨ii, br_f hm (yw_kept (L := xm_Lv kd vl (xm_Rt rt)) (B := xm_Bi st tg kd vl) HM HB hL16 hLi (xm_Bi_r i) (fun hkf => ?_))⟩
            exact br_c (fun e => nm_r (nI_1 i) (hkeep (Or.inr ⟨hLi, xh_inj e (by omega) (by omega)⟩))) (fun e => hrem hs (fun z => e (by rw [z.2])))
    · intro n i s hi g k
      have ii : vp_in (nI i) 32 := xh_in (by omega) (by omega)
      refine br_f (xh_l32 hi) ?_
      rw [xh_d2 (show i < 1000 by omega)]
      refine ⟨xh_d20, xh_in (by omega) (by omega), ?_⟩
      rw [xh_cl (show i / 2 < 1000 by omega), xh_cl (show i < 1000 by omega), (g i).2 (Or.inl (Nat.le_refl _))]
      by_cases hm : mk1 (i / 2) = 0
      · refine br_t hm (nm_r (nI_1 i) (k s (fun p => ⟨fun hp' hL hk => ?_, fun z => (g p).2 (z.imp (fun w => by omega) id)⟩)))
        rcases (by omega : p < i ∨ p = i) with e | e
        · exact (g p).1 e hL hk
        · subst e; exact absurd hm ((HM _ (by omega)).mpr hL)
      · have hL := (HM _ (by omega)).mp hm
        by_cases hk : kd i = 2
        · obtain ⟨d, hd, ed, ld⟩ := xm_LK2 KL hi hL hk
          refine br_f hm ⟨ii, br_t hk ⟨ii, ?_⟩⟩
          rw [ed]
          refine yw_kept (L := xm_Lv kd vl (xm_Rt rt)) (B := xm_Bi st tg kd vl) HM HB hL16 ld (xm_Bi_r d) (fun _ => ?_)
          refine ⟨ii, nm_e (nm_r (nI_1 i) (k _ (fun p => ?_)))⟩
          by_cases e : p = i
          · subst e
            refine ⟨fun _ _ _ => ?_, fun z => z.elim (fun w => by omega) (fun w => absurd hk w)⟩
            rw [pk_us, ed, xh_cl (by omega)]
          · rw [pk_un e]
            exact ⟨fun q => (g p).1 (by omega), fun q => (g p).2 (q.imp (fun w => by omega) id)⟩
        · refine br_f hm ⟨ii, br_f hk (nm_r (nI_1 i) (k s (fun p => ⟨fun hp' hL hk' => ?_, fun z => (g p).2 (z.imp (fun w => by omega) id)⟩)))⟩
          rcases (by omega : p < i ∨ p = i) with e | e
          · exact (g p).1 e hL hk'
          · subst e; exact absurd hk' hk
  · intro n i s hi h k
    obtain ⟨h1, h2⟩ := h
    have ii : vp_in (nI i) 8 := xh_in (by omega) (by omega)
    refine br_f (xh_l8 hi) ⟨ii, ?_⟩
    rw [xh_cl (show i < 1000 by omega), h2 i (Or.inl (Nat.le_refl _))]
    rcases HR i (by omega) with z | ⟨_, d, hd, ed, _⟩
    · rw [z]
      refine br_t xh_m1 (nm_r (nI_1 i) (k s ⟨lt_s h1 (fun c hcc e => ?_), fun r hor => h2 r (hor.imp (fun q => by omega) id)⟩))
      rw [z] at e
      exact absurd e.symm (xh_nm (by omega))
    · rw [ed]
      refine br_f (nI_pos (by omega)) ⟨ii, yw_kept (L := xm_Lv kd vl (xm_Rt rt)) (B := xm_Bi st tg kd vl) HM HB hL16 (xm_Lv_s ⟨by omega, i, by omega, ed⟩) (xm_Bi_r d) (fun _ => ⟨ii, nm_e (nm_r (nI_1 i) (k _ ⟨?_, ?_⟩))⟩)⟩
      · refine lt_s (fun r hri c hcc e => ?_) (fun c hcc e => ?_)
        · rw [pk_un (by omega)]; exact h1 r hri c hcc e
        · rw [pk_us, xh_inj (e.symm.trans ed) (by omega) (by omega)]
      · intro r hor
        by_cases e : r = i
        · subst e
          rcases hor with q | q
          · omega
          · rw [ed] at q; exact absurd q (xh_nm (by omega))
        · rw [pk_un e]
          exact h2 r (hor.imp (fun q => by omega) id)
end
end
section
/-! part 10: the reference's census and alloc -/
section
variable {cap rc : Nat} {st tg kd vl rt mk rl : Nat → Int32} {L : Nat → Prop} {B : Nat → Nat → Prop}
theorem yw_107_0 {post : Int32 → SY → Prop} {J : Int32 → Int32 → Prop} {x1 x2 x3 : Int32} {i : Nat} (h : J x3 (nI (i + 1))) : wY_census_107 post J x1 x2 x3 (nI i) 0 (nI cap) (nI rc) rt st tg kd vl mk rl := by
  unfold wY_census_107
  exact br_t rfl (nm_r (nI_1 i) h)
theorem yw_107_1 {post : Int32 → SY → Prop} {J : Int32 → Int32 → Prop} {x1 x2 : Int32} {m i : Nat} (h : J (nI (m + 1)) (nI (i + 1))) : wY_census_107 post J x1 x2 (nI m) (nI i) 1 (nI cap) (nI rc) rt st tg kd vl mk rl := by
  unfold wY_census_107
  exact br_f xh_10 (nm_r (nI_1 m) (nm_r (nI_1 i) h))
theorem yw_83_0 {post : Int32 → SY → Prop} {J : Int32 → Int32 → Prop} {x1 x2 x3 : Int32} {i : Nat} (h : J x3 (nI (i + 1))) : wY_census_83 post J x1 x2 x3 (nI i) 0 (nI cap) (nI rc) rt st tg kd vl mk rl := by
  unfold wY_census_83
  exact br_c (fun _ => br_t rfl (yw_107_0 h)) (fun _ => yw_107_0 h)
theorem yw_83_1 {post : Int32 → SY → Prop} {J : Int32 → Int32 → Prop} {x2 : Int32} {w m i : Nat} (hw : w ≤ 4) (hi : i < 16) (HM : ∀ c, c < 16 → (¬ mk c = 0 ↔ L c)) (HB : ∀ a b, a < 16 → b < 16 → (¬ rl (16 * a + b) = 0 ↔ B a b)) (hL16 : ∀ c, L c → c < 16)
    (hb : B i i) (hL : w = 4 → L i) (h1 : (w = 4 → xm_kf L B i = i) → J (nI (m + 1)) (nI (i + 1))) (h0 : ¬ (w = 4 → xm_kf L B i = i) → J (nI m) (nI (i + 1))) : wY_census_83 post J (nI w) x2 (nI m) (nI i) 1 (nI cap) (nI rc) rt st tg kd vl mk rl := by
  unfold wY_census_83
  by_cases e : w = 4
  · refine br_t (by subst e; rfl) (br_f xh_10 (yw_kept HM HB hL16 (hL e) hb (fun hk => ?_)))
    exact br_c (fun q => yw_107_1 (h1 (fun _ => xh_inj q (by omega) (by omega)))) (fun q => yw_107_0 (h0 (fun z => q (by rw [z e]))))
  · exact br_f (fun z => e (xh_inj (b := 4) z (by omega) (by omega))) (yw_107_1 (h1 (fun z => absurd z e)))
theorem yw_63_0 {post : Int32 → SY → Prop} {J : Int32 → Int32 → Prop} {x1 x2 x3 : Int32} {i : Nat} (hi : i < 16) (h : J x3 (nI (i + 1))) : wY_census_63 post J x1 x2 x3 (nI i) 0 (nI cap) (nI rc) rt st tg kd vl mk rl := by
  unfold wY_census_63
  exact br_c (fun _ => yw_83_0 h) (fun _ => ⟨xh_in hi (by omega), br_c (fun _ => yw_83_0 h) (fun _ => yw_83_0 h)⟩)
theorem yw_63_1 {post : Int32 → SY → Prop} {J : Int32 → Int32 → Prop} {x2 : Int32} {w m i : Nat} (hw : w ≤ 4) (hi : i < 16) (HM : ∀ c, c < 16 → (¬ mk c = 0 ↔ L c)) (HB : ∀ a b, a < 16 → b < 16 → (¬ rl (16 * a + b) = 0 ↔ B a b)) (hL16 : ∀ c, L c → c < 16)
    (hb : B i i) (h1 : ((2 ≤ w → L i) ∧ (w = 4 → xm_kf L B i = i)) → J (nI (m + 1)) (nI (i + 1))) (h0 : ¬ ((2 ≤ w → L i) ∧ (w = 4 → xm_kf L B i = i)) → J (nI m) (nI (i + 1))) : wY_census_63 post J (nI w) x2 (nI m) (nI i) 1 (nI cap) (nI rc) rt st tg kd vl mk rl := by
  unfold wY_census_63
  rw [xh_cl (show i < 1000 by omega)]
  by_cases e : w < 2
  · exact br_t (nI_lt (b := 2) e (by decide)) (yw_83_1 hw hi HM HB hL16 hb (fun z => by omega) (fun z => h1 ⟨fun q => by omega, z⟩) (fun z => h0 (fun q => z q.2)))
  · refine br_f (nI_nlt (b := 2) (by omega) (by omega)) ⟨xh_in hi (by omega), br_c (fun z => yw_83_0 (h0 (fun q => (HM i hi).mpr (q.1 (by omega)) z))) (fun z => ?_)⟩
    have hLi := (HM i hi).mp z
    exact yw_83_1 hw hi HM HB hL16 hb (fun _ => hLi) (fun q => h1 ⟨fun _ => hLi, q⟩) (fun q => h0 (fun z => q z.2))
theorem yw_cens {post : Int32 → SY → Prop} {wt : Int32} {w : Nat} (hw : w ≤ 4) (HM : ∀ c, c < 16 → (¬ mk c = 0 ↔ L c)) (HB : ∀ a b, a < 16 → b < 16 → (¬ rl (16 * a + b) = 0 ↔ B a b)) (hL16 : ∀ c, L c → c < 16) (hb : ∀ i, B i i)
    (hp : post (nI (cz_n (fun c => st c = wt ∧ (2 ≤ w → L c) ∧ (w = 4 → xm_kf L B c = c)) 16)) (nI cap, nI rc, rt, st, tg, kd, vl, mk, rl)) : ∃ n, wY_census_40 post (nI w) wt (nI cap) (nI rc) rt st tg kd vl mk rl n 0 0 := by
  refine loop_0 (fun n i (x : Int32) => wY_census_40 post (nI w) wt (nI cap) (nI rc) rt st tg kd vl mk rl n x (nI i)) (fun i x => x = nI (cz_n (fun c => st c = wt ∧ (2 ≤ w → L c) ∧ (w = 4 → xm_kf L B c = c)) i)) 16 0 ?_ ?_ ?_
  · rfl
  · intro n x h
    refine br_t xh_g16 ?_
    rw [show x = _ from h]
    exact hp
  · intro n i x hi h k
    refine br_f (xh_l16 hi) ⟨xh_in hi (by omega), ?_⟩
    rw [xh_cl (show i < 1000 by omega), show x = _ from h]
    refine br_c (fun e => yw_63_1 hw hi HM HB hL16 (hb i) (fun z => k _ ?_) (fun z => k _ ?_)) (fun e => yw_63_0 hi (k _ ?_))
    · show nI _ = nI _
      rw [cz_st (P := fun c => st c = wt ∧ (2 ≤ w → L c) ∧ (w = 4 → xm_kf L B c = c)) ⟨e, z⟩]
    · show nI _ = nI _
      rw [cz_sf (P := fun c => st c = wt ∧ (2 ≤ w → L c) ∧ (w = 4 → xm_kf L B c = c)) (fun q => z q.2)]
    · show nI _ = nI _
      rw [cz_sf (P := fun c => st c = wt ∧ (2 ≤ w → L c) ∧ (w = 4 → xm_kf L B c = c)) (fun q => e q.1)]
theorem yw_census {post : Int32 → SY → Prop} {w : Nat} (hw : w ≤ 4) (hc : cap ≤ 16) (H : xm_HK cap st kd vl) (HR : xm_RK cap rc st rt)
    (hp : ∀ mk' rl' : Nat → Int32, post (nI (cz_n (fun c => st c = (if w = 0 ∨ w = 2 then 1 else 2) ∧ (2 ≤ w → xm_Lv kd vl (xm_Rt rt) c) ∧ (w = 4 → xm_kf (xm_Lv kd vl (xm_Rt rt)) (xm_Bi st tg kd vl) c = c)) 16)) (nI cap, nI rc, rt, st, tg, kd, vl, mk', rl')) :
    wpY_census post (nI cap, nI rc, rt, st, tg, kd, vl, mk, rl) (nI w) := by
  have KL := xm_LK_of hc H (xm_Rt_of hc HR)
  have hL16 : ∀ c, xm_Lv kd vl (xm_Rt rt) c → c < 16 := fun c h => by have := (KL.1 c h).1; omega
  unfold wpY_census
  dsimp only
  refine br_f (nI_pos (by omega)) (br_t (nI_le (b := 4) hw (by decide)) ?_)
  refine yw_live hc H HR ?_
  intro mk1 HM
  dsimp only
  refine yw_alike hc H ?_
  intro rl1 HB
  dsimp only
  have key := hp mk1 rl1
  rcases (by omega : w = 0 ∨ w = 2 ∨ (¬ w = 0 ∧ ¬ w = 2)) with e | e | e
  · subst e
    rw [if_pos (Or.inl rfl)] at key
    exact br_t rfl (yw_cens (w := 0) (by omega) HM HB hL16 (fun i => xm_Bi_r i) key)
  · subst e
    rw [if_pos (Or.inr rfl)] at key
    exact br_f (by decide) (br_t rfl (yw_cens (w := 2) (by omega) HM HB hL16 (fun i => xm_Bi_r i) key))
  · rw [if_neg (by omega)] at key
    exact br_f (fun z => e.1 (xh_inj (b := 0) z (by omega) (by omega))) (br_f (fun z => e.2 (xh_inj (b := 2) z (by omega) (by omega))) (yw_cens hw HM HB hL16 (fun i => xm_Bi_r i) key))
/-! alloc -/
theorem yw_alB {post : Int32 → SY → Prop} {v w : Int32} (h : xm_bad rc v) (hp : post (-1) (nI cap, nI rc, rt, st, tg, kd, vl, mk, rl)) : wpY_alloc post (nI cap, nI rc, rt, st, tg, kd, vl, mk, rl) v w := by
  unfold wpY_alloc
  dsimp only
  exact yw_brB h (br_f xh_10 hp)
theorem yw_alF {post : Int32 → SY → Prop} {j : Nat} {w : Int32} (hc : cap ≤ 16) (hr : rc ≤ 8) (hj : j < rc) (hf : ∀ c, c < cap → ¬ st c = 0) (hp : post (-5) (nI cap, nI rc, rt, st, tg, kd, vl, mk, rl)) : wpY_alloc post (nI cap, nI rc, rt, st, tg, kd, vl, mk, rl) (nI j) w := by
  unfold wpY_alloc
  dsimp only
  refine yw_brG hr hj (br_t rfl ?_)
  refine loop_0 (fun n i (_ : Unit) => wY_alloc_12 post (nI j) w (nI cap) (nI rc) rt st tg kd vl mk rl n (nI i)) (fun _ _ => True) cap () trivial ?_ ?_
  · intro n _ _
    exact br_t (Int32.le_refl _) hp
  · intro n i _ hi _ k
    refine br_f (nI_ge hi (by omega)) ⟨xh_in (by omega) (by omega), ?_⟩
    rw [xh_cl (show i < 1000 by omega)]
    exact br_f (hf i hi) (nm_r (nI_1 i) (k () trivial))
theorem yw_alG {post : Int32 → SY → Prop} {j d : Nat} {w : Int32} (hc : cap ≤ 16) (hr : rc ≤ 8) (hj : j < rc) (hd : d < cap) (h0 : st d = 0) (hf : ∀ c, c < d → ¬ st c = 0)
    (hp : post 0 (nI cap, nI rc, upd rt j (nI d), upd st d 1, upd tg d w, upd (upd kd (2 * d) 0) (2 * d + 1) 0, vl, mk, rl)) : wpY_alloc post (nI cap, nI rc, rt, st, tg, kd, vl, mk, rl) (nI j) w := by
  unfold wpY_alloc
  dsimp only
  refine yw_brG hr hj (br_t rfl ?_)
  refine loop_0 (fun n i (_ : Unit) => wY_alloc_12 post (nI j) w (nI cap) (nI rc) rt st tg kd vl mk rl n (nI i)) (fun _ _ => True) d () trivial ?_ ?_
  · intro n _ _
    refine br_f (nI_ge hd (by omega)) ⟨xh_in (by omega) (by omega), ?_⟩
    rw [xh_cl (show d < 1000 by omega), xh_cl (show j < 1000 by omega), xh_2 d, nI_1 (2 * d), xh_cl (show 2 * d < 1000 by omega), xh_cl (show 2 * d + 1 < 1000 by omega)]
    exact br_t h0 ⟨xh_in (by omega) (by omega), nm_e ⟨xh_in (by omega) (by omega), nm_e ⟨xh_in (by omega) (by omega), nm_e ⟨xh_in (by omega) (by omega), nm_e ⟨xh_in (by omega) (by omega), nm_e hp⟩⟩⟩⟩⟩
  · intro n i _ hi _ k
    refine br_f (nI_ge (show i < cap by omega) (by omega)) ⟨xh_in (by omega) (by omega), ?_⟩
    rw [xh_cl (show i < 1000 by omega)]
    exact br_f (hf i hi) (nm_r (nI_1 i) (k () trivial))
/-! one place written -/
end
end
section
/-! part 11: the relation and what keeps it -/
def xm_I (cap rc : Nat) (st rt tX kX vX tY kY vY : Nat → Int32) : Prop :=
  cap ≤ 16 ∧ rc ≤ 8 ∧ xm_HK cap st kX vX ∧ xm_RK cap rc st rt ∧ xm_Ag st tX kX vX tY kY vY ∧ xm_NX st kX
/-- the relation at the head of a turn: capacity, root count, roots and cell states are the same; tags, kinds and values agree where a cell is; all scratch is free -/
def i_Rel (_ : Nat) (u : SX) (v : SY) : Prop :=
  ∃ (cap rc : Nat) (ql : Int32) (st rt tX kX vX re qu bl nb tY kY vY mk rl : Nat → Int32),
    u = (nI cap, nI rc, ql, st, tX, kX, vX, rt, re, qu, bl, nb) ∧ v = (nI cap, nI rc, rt, st, tY, kY, vY, mk, rl) ∧ xm_I cap rc st rt tX kX vX tY kY vY
theorem zz_el {k : Nat} {u : SX} {v : SY} {P : SX → SY → Prop}
    (h : ∀ (cap rc : Nat) (ql : Int32) (st rt tX kX vX re qu bl nb tY kY vY mk rl : Nat → Int32), xm_I cap rc st rt tX kX vX tY kY vY → P (nI cap, nI rc, ql, st, tX, kX, vX, rt, re, qu, bl, nb) (nI cap, nI rc, rt, st, tY, kY, vY, mk, rl))
    (I : i_Rel k u v) : P u v := by
  obtain ⟨cap, rc, ql, st, rt, tX, kX, vX, re, qu, bl, nb, tY, kY, vY, mk, rl, e1, e2, J⟩ := I
  rw [e1, e2]
  exact h cap rc ql st rt tX kX vX re qu bl nb tY kY vY mk rl J
section
variable {k cap rc : Nat} {ql : Int32} {st rt tX kX vX re qu bl nb tY kY vY mk rl : Nat → Int32}
theorem zz_in (J : xm_I cap rc st rt tX kX vX tY kY vY) : i_Rel k (nI cap, nI rc, ql, st, tX, kX, vX, rt, re, qu, bl, nb) (nI cap, nI rc, rt, st, tY, kY, vY, mk, rl) :=
  ⟨cap, rc, ql, st, rt, tX, kX, vX, re, qu, bl, nb, tY, kY, vY, mk, rl, rfl, rfl, J⟩
theorem xm_I_rt {j : Nat} {w : Int32} (J : xm_I cap rc st rt tX kX vX tY kY vY) (hj : j < rc) (hw : w = -1 ∨ ∃ c, c < cap ∧ w = nI c ∧ ¬ st c = 0) : xm_I cap rc st (upd rt j w) tX kX vX tY kY vY := by
  obtain ⟨hc, hr, H, HR, A, N⟩ := J
  refine ⟨hc, hr, H, fun r hr8 => ?_, A, N⟩
  by_cases e : r = j
  · subst e
    rw [pk_us]
    exact hw.imp id (fun z => ⟨hj, z⟩)
  · rw [pk_un e]
    exact HR r hr8
theorem xm_RKw (HR : xm_RK cap rc st rt) {j : Nat} (hj : j < 8) : rt j = -1 ∨ ∃ c, c < cap ∧ rt j = nI c ∧ ¬ st c = 0 := (HR j hj).imp id (fun z => z.2)
theorem xm_I_w {p : Nat} {kk wX wY : Int32} (J : xm_I cap rc st rt tX kX vX tY kY vY) (hp : p < 32) (hs : ¬ st (p / 2) = 0)
    (hw : kk = 0 ∨ (kk = 1 ∧ wX = wY) ∨ (kk = 2 ∧ wX = wY ∧ ∃ d, d < cap ∧ wX = nI d ∧ ¬ st d = 0)) : xm_I cap rc st rt tX (upd kX p kk) (upd vX p wX) tY (upd kY p kk) (upd vY p wY) := by
  obtain ⟨hc, hr, H, HR, A, N⟩ := J
  refine ⟨hc, hr, ⟨H.1, H.2.1, fun q hq hsq => ?_⟩, HR, ⟨A.1, fun q hq hsq => ?_⟩, fun q hq hsq => ?_⟩
  · by_cases e : q = p
    · subst e
      rw [pk_us, pk_us]
      rcases hw with z | z | z
      · exact Or.inl z
      · exact Or.inr (Or.inl z.1)
      · exact Or.inr (Or.inr ⟨z.1, z.2.2⟩)
    · rw [pk_un e, pk_un e]
      exact H.2.2 q hq hsq
  · by_cases e : q = p
    · subst e
      rw [pk_us, pk_us, pk_us, pk_us]
      refine ⟨rfl, fun n0 => ?_⟩
      rcases hw with z | z | z
      · exact absurd z n0
      · exact z.2
      · exact z.2.1
    · rw [pk_un e, pk_un e, pk_un e, pk_un e]
      exact A.2 q hq hsq
  · have e : q ≠ p := fun e => hs (by rw [← e]; exact hsq)
    rw [pk_un e]
    exact N q hq hsq
theorem xm_I_st {st' : Nat → Int32} (J : xm_I cap rc st rt tX kX vX tY kY vY) (h0 : ∀ c, st' c = 0 ↔ st c = 0) (h2 : ∀ c, st' c = 0 ∨ st' c = 1 ∨ st' c = 2) : xm_I cap rc st' rt tX kX vX tY kY vY := by
  obtain ⟨hc, hr, H, HR, A, N⟩ := J
  refine ⟨hc, hr, ⟨fun c hcc => (h0 c).mpr (H.1 c hcc), h2, fun p hp hs => ?_⟩, fun r hr8 => ?_, ⟨fun c hcc hs => A.1 c hcc (fun z => hs ((h0 c).mpr z)), fun p hp hs => A.2 p hp (fun z => hs ((h0 _).mpr z))⟩, fun p hp hs => N p hp ((h0 _).mp hs)⟩
  · rcases H.2.2 p hp (fun z => hs ((h0 _).mpr z)) with q | q | ⟨q, c, hcc, ec, sc⟩
    · exact Or.inl q
    · exact Or.inr (Or.inl q)
    · exact Or.inr (Or.inr ⟨q, c, hcc, ec, fun z => sc ((h0 c).mp z)⟩)
  · rcases HR r hr8 with q | ⟨q, c, hcc, ec, sc⟩
    · exact Or.inl q
    · exact Or.inr ⟨q, c, hcc, ec, fun z => sc ((h0 c).mp z)⟩
theorem xm_I_fo {L : Nat → Prop} {st' : Nat → Int32} (J : xm_I cap rc st rt tX kX vX tY kY vY) (F : xm_FO L st st') : xm_I cap rc st' rt tX kX vX tY kY vY := by
  have H := J.2.2.1
  refine xm_I_st J (fun c => ?_) (fun c => ?_)
  · rcases Classical.em (L c ∧ st c = 1) with z | z
    · rw [(F c).1 z, z.2]
      exact ⟨fun q => absurd q (by decide), fun q => absurd q (by decide)⟩
    · rw [(F c).2 z]
  · rcases Classical.em (L c ∧ st c = 1) with z | z
    · exact Or.inr (Or.inr ((F c).1 z))
    · rw [(F c).2 z]; exact H.2.1 c
theorem xm_FO_u {L : Nat → Prop} {s s' : Nat → Int32} (F : xm_FO L st s) (F' : xm_FO L st s') : s' = s := by
  funext c
  rcases Classical.em (L c ∧ st c = 1) with z | z
  · rw [(F c).1 z, (F' c).1 z]
  · rw [(F c).2 z, (F' c).2 z]
theorem xm_upd_id {a : Nat → Int32} {i : Nat} {w : Int32} (h : a i = w) : upd a i w = a := by
  funext j
  by_cases e : j = i
  · subst e; rw [pk_us, h]
  · rw [pk_un e]
theorem xm_I_al {j d : Nat} {w : Int32} (J : xm_I cap rc st rt tX kX vX tY kY vY) (hj : j < rc) (hd : d < cap) :
    xm_I cap rc (upd st d 1) (upd rt j (nI d)) (upd tX d w) (upd (upd kX (2 * d) 0) (2 * d + 1) 0) (upd (upd vX (2 * d) 0) (2 * d + 1) 0) (upd tY d w) (upd (upd kY (2 * d) 0) (2 * d + 1) 0) vY := by
  obtain ⟨hc, hr, H, HR, A, N⟩ := J
  have hm : ∀ c, ¬ st c = 0 → ¬ upd st d 1 c = 0 := xh_umono
  refine ⟨hc, hr, ⟨fun c hcc => ?_, fun c => ?_, fun p hp hs => ?_⟩, fun r hr8 => ?_, ⟨fun c hcc hs => ?_, fun p hp hs => ?_⟩, fun p hp hs => ?_⟩
  · rw [pk_un (by omega)]; exact H.1 c hcc
  · by_cases e : c = d
    · subst e; rw [pk_us]; exact Or.inr (Or.inl rfl)
    · rw [pk_un e]; exact H.2.1 c
  · by_cases e : p / 2 = d
    · exact Or.inl (xm_u2a e)
    · rw [xm_u2b e, xm_u2b e]
      rw [pk_un e] at hs
      rcases H.2.2 p hp hs with q | q | ⟨q, c, hcc, ec, sc⟩
      · exact Or.inl q
      · exact Or.inr (Or.inl q)
      · exact Or.inr (Or.inr ⟨q, c, hcc, ec, hm c sc⟩)
  · by_cases e : r = j
    · subst e
      rw [pk_us]
      exact Or.inr ⟨hj, d, hd, rfl, by rw [pk_us]; exact xh_10⟩
    · rw [pk_un e]
      rcases HR r hr8 with q | ⟨q, c, hcc, ec, sc⟩
      · exact Or.inl q
      · exact Or.inr ⟨q, c, hcc, ec, hm c sc⟩
  · by_cases e : c = d
    · subst e; rw [pk_us, pk_us]
    · rw [pk_un e, pk_un e]
      rw [pk_un e] at hs
      exact A.1 c hcc hs
  · by_cases e : p / 2 = d
    · rw [xm_u2a e, xm_u2a e]
      exact ⟨rfl, fun z => absurd rfl z⟩
    · rw [xm_u2b e, xm_u2b e, xm_u2b e]
      rw [pk_un e] at hs
      exact A.2 p hp hs
  · have e : ¬ p / 2 = d := fun e => by
      rw [e, pk_us] at hs
      exact absurd hs (by decide)
    rw [xm_u2b e]
    rw [pk_un e] at hs
    exact N p hp hs
theorem xm_OR_u {kf : Nat → Nat} {r1 r2 : Nat → Int32} (hc : cap ≤ 16) (HR : xm_RK cap rc st rt) (h1 : xm_OR kf rt r1) (h2 : xm_OR kf rt r2) : r2 = r1 := by
  funext r
  rcases Nat.lt_or_ge r 8 with h8 | h8
  · rcases HR r h8 with z | ⟨_, c, hcc, ec, _⟩
    · rw [(h1 r).2 (Or.inr z), (h2 r).2 (Or.inr z)]
    · rw [(h1 r).1 h8 c (by omega) ec, (h2 r).1 h8 c (by omega) ec]
  · rw [(h1 r).2 (Or.inl h8), (h2 r).2 (Or.inl h8)]
theorem xm_OS_u {K : Nat → Prop} {s1 s2 : Nat → Int32} (h1 : xm_OS K st s1) (h2 : xm_OS K st s2) : s2 = s1 := by
  funext c
  rcases Classical.em (K c) with z | z
  · rw [(h1 c).1 z, (h2 c).1 z]
  · rw [(h1 c).2 z, (h2 c).2 z]
theorem xm_I_col {rt' st' tX' kX' vX' vY' : Nat → Int32} (J : xm_I cap rc st rt tX kX vX tY kY vY) (PP : xm_PP cap st tX kX vX (xm_Lv kX vX (xm_Rt rt)) bl)
    (oR : xm_OR (xm_kf (xm_Lv kX vX (xm_Rt rt)) (xm_Bi st tX kX vX)) rt rt') (oS : xm_OS (xm_Kp (xm_Lv kX vX (xm_Rt rt)) (xm_Bi st tX kX vX)) st st') (oT : ∀ c, xm_Kp (xm_Lv kX vX (xm_Rt rt)) (xm_Bi st tX kX vX) c → tX' c = tX c)
    (oK : xm_OK (xm_Kp (xm_Lv kX vX (xm_Rt rt)) (xm_Bi st tX kX vX)) (xm_kf (xm_Lv kX vX (xm_Rt rt)) (xm_Bi st tX kX vX)) kX vX kX' vX')
    (oV : ym_OV (xm_Lv kX vX (xm_Rt rt)) (xm_kf (xm_Lv kX vX (xm_Rt rt)) (xm_Bi st tX kX vX)) kY vY vY') : xm_I cap rc st' rt' tX' kX' vX' tY kY vY' := by
  obtain ⟨hc, hr, H, HR, A, N⟩ := J
  have KL := xm_LK_of hc H (xm_Rt_of hc HR)
  revert PP oR oS oT oK oV KL
  have hRt : ∀ r, r < 8 → ∀ c, c < cap → rt r = nI c → xm_Lv kX vX (xm_Rt rt) c := fun r hr8 c hcc e => xm_Lv_s ⟨by omega, r, hr8, e⟩
  revert hRt
  generalize xm_Lv kX vX (xm_Rt rt) = L
  intro hRt PP oR oS oT oK oV KL
  obtain ⟨E, BK⟩ := PP
  revert E BK oR oS oT oK oV
  generalize xm_Bi st tX kX vX = B
  intro oR oS oT oK oV E BK
  have hK0 : ∀ c, xm_Kp L B c → c < cap ∧ ¬ st c = 0 ∧ ¬ st' c = 0 := fun c z => ⟨(KL.1 c z.1).1, (KL.1 c z.1).2, by rw [(oS c).1 z]; exact (KL.1 c z.1).2⟩
  have hK1 : ∀ c, ¬ st' c = 0 → xm_Kp L B c := fun c z => Classical.byContradiction fun q => z ((oS c).2 q)
  have hkf : ∀ c, c < cap → L c → xm_kf L B c < cap ∧ ¬ st' (xm_kf L B c) = 0 := fun c hcc hL => by
    have := hK0 _ (xm_Kp_kf E BK hcc hL)
    exact ⟨this.1, this.2.2⟩
  refine ⟨hc, hr, ⟨fun c hcc => ?_, fun c => ?_, fun p hp hs => ?_⟩, fun r hr8 => ?_, ⟨fun c hcc hs => ?_, fun p hp hs => ?_⟩, fun p hp hs => ?_⟩
  · exact (oS c).2 (fun z => absurd (hK0 c z).1 (by omega))
  · rcases Classical.em (xm_Kp L B c) with z | z
    · rw [(oS c).1 z]; exact H.2.1 c
    · exact Or.inl ((oS c).2 z)
  · have hk := hK1 _ hs
    obtain ⟨e1, e2, e3⟩ := (oK p hp).1 hk
    rcases H.2.2 p hp (hK0 _ hk).2.1 with q | q | ⟨q, _⟩
    · exact Or.inl (e1.trans q)
    · exact Or.inr (Or.inl (e1.trans q))
    · obtain ⟨c, hcc, ec, lc⟩ := xm_LK2 KL hp hk.1 q
      refine Or.inr (Or.inr ⟨e1.trans q, xm_kf L B c, (hkf c hcc lc).1, ?_, (hkf c hcc lc).2⟩)
      rw [e2 q, ec, xh_cl (by omega)]
  · rcases HR r hr8 with z | ⟨hrc, c, hcc, ec, _⟩
    · exact Or.inl (((oR r).2 (Or.inr z)).trans z)
    · have lc := hRt r hr8 c hcc ec
      exact Or.inr ⟨hrc, xm_kf L B c, (hkf c hcc lc).1, (oR r).1 hr8 c (by omega) ec, (hkf c hcc lc).2⟩
  · have hk := hK1 _ hs
    rw [oT c hk]
    exact A.1 c hcc (hK0 c hk).2.1
  · have hk := hK1 _ hs
    obtain ⟨e1, e2, e3⟩ := (oK p hp).1 hk
    obtain ⟨a1, a2⟩ := A.2 p hp (hK0 _ hk).2.1
    obtain ⟨v1, v2⟩ := oV p hp hk.1
    refine ⟨e1.trans a1, fun n0 => ?_⟩
    rw [e1] at n0
    by_cases h2 : kX p = 2
    · rw [e2 h2, v1 (a1.symm.trans h2), a2 n0]
    · rw [e3 h2, v2 (fun z => h2 (a1.trans z)), a2 n0]
  · refine (oK p hp).2 (fun z => (hK0 _ z).2.2 hs)
end
end
section
/-! part 12: the owed statements, the small methods -/
theorem xh_m2' : ¬ (0 : Int32) ≤ -2 := by decide
theorem xh_m3' : ¬ (0 : Int32) ≤ -3 := by decide
section
variable {cap rc : Nat} {st rt tX kX vX tY kY vY kd vl : Nat → Int32}
theorem xm_rd (hr : rc ≤ 8) (HR : xm_RK cap rc st rt) (v1 v2 : Int32) : xm_bad rc v1 ∨ ∃ j, j < rc ∧ v1 = nI j ∧ ((¬ v2 = 0 ∧ ¬ v2 = 1) ∨ ∃ e, e < 2 ∧ v2 = nI e ∧ (rt j = -1 ∨ ∃ c, c < cap ∧ rt j = nI c ∧ ¬ st c = 0)) := by
  rcases xm_ix hr v1 with h | ⟨j, hj, e⟩
  · exact Or.inl h
  · refine Or.inr ⟨j, hj, e, ?_⟩
    have hw := xm_RKw HR (show j < 8 by omega)
    by_cases h0 : v2 = 0
    · exact Or.inr ⟨0, by omega, h0, hw⟩
    · by_cases h1 : v2 = 1
      · exact Or.inr ⟨1, by omega, h1, hw⟩
      · exact Or.inl ⟨h0, h1⟩
theorem xm_ix2 (hr : rc ≤ 8) (a b : Int32) : (xm_bad rc a ∨ xm_bad rc b) ∨ ∃ i j, i < rc ∧ j < rc ∧ a = nI i ∧ b = nI j := by
  rcases xm_ix hr a with h | ⟨i, hi, e⟩
  · exact Or.inl (Or.inl h)
  · rcases xm_ix hr b with h | ⟨j, hj, e'⟩
    · exact Or.inl (Or.inr h)
    · exact Or.inr ⟨i, j, hi, hj, e, e'⟩
theorem xm_fd (hr : rc ≤ 8) (HR : xm_RK cap rc st rt) {j : Nat} (hj : j < rc) (v2 : Int32) : (¬ v2 = 0 ∧ ¬ v2 = 1) ∨ ∃ e, e < 2 ∧ v2 = nI e ∧ (rt j = -1 ∨ ∃ c, c < cap ∧ rt j = nI c ∧ ¬ st c = 0) := by
  have hw := xm_RKw HR (show j < 8 by omega)
  by_cases h0 : v2 = 0
  · exact Or.inr ⟨0, by omega, h0, hw⟩
  · by_cases h1 : v2 = 1
    · exact Or.inr ⟨1, by omega, h1, hw⟩
    · exact Or.inl ⟨h0, h1⟩
theorem xm_ps {c e : Nat} (he : e < 2) (sc : ¬ st c = 0) : ¬ st ((2 * c + e) / 2) = 0 := by
  rw [show (2 * c + e) / 2 = c by omega]; exact sc
theorem xm_k0 (H : xm_HK cap st kd vl) {p : Nat} (hp : p < 32) (hs : ¬ st (p / 2) = 0) : (0 : Int32) ≤ kd p := by
  rcases H.2.2 p hp hs with q | q | ⟨q, _⟩
  · rw [q]; decide
  · rw [q]; decide
  · rw [q]; decide
end
theorem i_up {k : Nat} {u : SX} {v : SY} (h : i_Rel k u v) : i_Rel (k + 4) u v := h
theorem i_vc_alloc {k : Nat} {u : SX} {v : SY} (I : i_Rel k u v) (hk : k + 4 ≤ 2050) (v1 : Int32) (v2 : Int32) : wpX_alloc (fun r u' => wpY_alloc (fun r' v' => r' = r ∧ i_Rel (k + 4) u' v') v v1 v2) u v1 v2 := by
  refine zz_el (P := fun u v => wpX_alloc (fun r u' => wpY_alloc (fun r' v' => r' = r ∧ i_Rel (k + 4) u' v') v v1 v2) u v1 v2) ?_ I
  intro cap rc ql st rt tX kX vX re qu bl nb tY kY vY mk rl J
  have J0 := J
  obtain ⟨hc, hr, H, HR, A, N⟩ := J0
  unfold wpX_alloc
  dsimp only
  rcases xm_ix hr v1 with hb | ⟨j, hj, rfl⟩
  · exact xw_trB hb (br_f xh_n1 (yw_alB hb ⟨rfl, zz_in J⟩))
  · refine xw_trG hr hj (br_t rfl (xw_free hc (fun d hd h0 hf => ?_) (fun hf => ?_)))
    · refine br_t (nI_pos' (by omega)) ⟨xh_in (by omega) (by omega), xh_up d ⟨xh_in (by omega) (by omega), xh_up d ?_⟩⟩
      refine xw_clearF (by omega) ?_
      dsimp only
      refine ⟨xh_in (by omega) (by omega), xh_up j ?_⟩
      exact yw_alG hc hr hj hd h0 hf ⟨rfl, zz_in (xm_I_al J hj hd)⟩
    · exact br_f xh_m1' (yw_alF hc hr hj hf ⟨rfl, zz_in J⟩)
theorem i_vc_setLiteral {k : Nat} {u : SX} {v : SY} (I : i_Rel k u v) (hk : k + 4 ≤ 2050) (v1 : Int32) (v2 : Int32) (v3 : Int32) : wpX_setLiteral (fun r u' => wpY_setLiteral (fun r' v' => r' = r ∧ i_Rel (k + 4) u' v') v v1 v2 v3) u v1 v2 v3 := by
  refine zz_el (P := fun u v => wpX_setLiteral (fun r u' => wpY_setLiteral (fun r' v' => r' = r ∧ i_Rel (k + 4) u' v') v v1 v2 v3) u v1 v2 v3) ?_ I
  intro cap rc ql st rt tX kX vX re qu bl nb tY kY vY mk rl J
  have J0 := J
  obtain ⟨hc, hr, H, HR, A, N⟩ := J0
  have HY := xm_HK_ag A H
  unfold wpX_setLiteral
  dsimp only
  rcases xm_rd hr HR v1 v2 with hb | ⟨j, hj, rfl, ⟨f0, f1⟩ | ⟨e, he, rfl, hn | ⟨c, hcc, ec, sc⟩⟩⟩
  · refine xw_wrB hb (br_f xh_n1 ?_)
    unfold wpY_setLiteral
    dsimp only
    exact yw_kdB hb (br_f xh_m1' ⟨rfl, zz_in J⟩)
  · refine xw_wrF hr hj f0 f1 (br_f xh_n2 ?_)
    unfold wpY_setLiteral
    dsimp only
    exact yw_kdF hr hj f0 f1 (br_f xh_m2' ⟨rfl, zz_in J⟩)
  · refine xw_wrN hr hj (xm_f2 he) hn (br_f xh_n3 ?_)
    unfold wpY_setLiteral
    dsimp only
    exact yw_kdN hr hj (xm_f2 he) hn (br_f xh_m3' ⟨rfl, zz_in J⟩)
  · have hp : 2 * c + e < 32 := by omega
    have hk0 : (0 : Int32) ≤ kY (2 * c + e) := xm_k0 HY hp (xm_ps he sc)
    have ij : vp_in (nI j) 8 := xh_in (by omega) (by omega)
    have ic : vp_in (nI c) 16 := xh_in (by omega) (by omega)
    have ip : vp_in (nI (2 * c + e)) 32 := xh_in (by omega) (by omega)
    by_cases hs : st c = 2
    · refine xw_wrZ hr hj (xm_f2 he) (by omega) ec hs (br_f xh_n4 ?_)
      unfold wpY_setLiteral
      dsimp only
      refine yw_kdG hr hj he (by omega) ec (br_t hk0 ?_)
      rw [xh_cl (show j < 1000 by omega), ec, xh_cl (show c < 1000 by omega)]
      exact ⟨ij, ic, br_t hs ⟨rfl, zz_in J⟩⟩
    · refine xw_wrG hr hj (xm_f2 he) (by omega) ec hs (br_t rfl ?_)
      rw [xh_cl (show j < 1000 by omega), ec, xm_pl]
      refine ⟨ij, nm_e ⟨ip, xh_up (2 * c + e) ⟨ip, xh_up (2 * c + e) ?_⟩⟩⟩
      unfold wpY_setLiteral
      dsimp only
      refine yw_kdG hr hj he (by omega) ec (br_t hk0 ?_)
      rw [xh_cl (show j < 1000 by omega), ec, xh_cl (show c < 1000 by omega), xm_pl]
      refine ⟨ij, ic, br_f hs ⟨ij, ip, xh_up (2 * c + e) ⟨ij, ip, xh_up (2 * c + e) ⟨rfl, zz_in (xm_I_w J hp (xm_ps he sc) (Or.inr (Or.inl ⟨rfl, rfl⟩)))⟩⟩⟩⟩
theorem i_vc_setRef {k : Nat} {u : SX} {v : SY} (I : i_Rel k u v) (hk : k + 4 ≤ 2050) (v1 : Int32) (v2 : Int32) (v3 : Int32) : wpX_setRef (fun r u' => wpY_setRef (fun r' v' => r' = r ∧ i_Rel (k + 4) u' v') v v1 v2 v3) u v1 v2 v3 := by
  refine zz_el (P := fun u v => wpX_setRef (fun r u' => wpY_setRef (fun r' v' => r' = r ∧ i_Rel (k + 4) u' v') v v1 v2 v3) u v1 v2 v3) ?_ I
  intro cap rc ql st rt tX kX vX re qu bl nb tY kY vY mk rl J
  have J0 := J
  obtain ⟨hc, hr, H, HR, A, N⟩ := J0
  have HY := xm_HK_ag A H
  unfold wpX_setRef
  dsimp only
  rcases xm_ix2 hr v1 v3 with hb | ⟨j, s, hj, hs3, rfl, rfl⟩
  · refine xw_t2B hr hb (br_f xh_n1 ?_)
    unfold wX_setRef_21
    refine br_f xh_n1 ?_
    unfold wpY_setRef
    dsimp only
    exact yw_2B hr hb ⟨rfl, zz_in J⟩ ⟨rfl, zz_in J⟩
  rcases xm_fd hr HR hj v2 with ⟨f0, f1⟩ | ⟨e, he, rfl, hn | ⟨c, hcc, ec, sc⟩⟩
  · refine xw_t2G hr hj hs3 (br_t rfl (xw_wrF hr hj f0 f1 ?_))
    unfold wX_setRef_21
    refine br_f xh_n2 ?_
    unfold wpY_setRef
    dsimp only
    exact yw_2G hr hj hs3 (yw_kdF hr hj f0 f1 (br_f xh_m2' ⟨rfl, zz_in J⟩))
  · refine xw_t2G hr hj hs3 (br_t rfl (xw_wrN hr hj (xm_f2 he) hn ?_))
    unfold wX_setRef_21
    refine br_f xh_n3 ?_
    unfold wpY_setRef
    dsimp only
    exact yw_2G hr hj hs3 (yw_kdN hr hj (xm_f2 he) hn (br_f xh_m3' ⟨rfl, zz_in J⟩))
  · have hp : 2 * c + e < 32 := by omega
    have hk0 : (0 : Int32) ≤ kY (2 * c + e) := xm_k0 HY hp (xm_ps he sc)
    have ij : vp_in (nI j) 8 := xh_in (by omega) (by omega)
    have is : vp_in (nI s) 8 := xh_in (by omega) (by omega)
    have ic : vp_in (nI c) 16 := xh_in (by omega) (by omega)
    have ip : vp_in (nI (2 * c + e)) 32 := xh_in (by omega) (by omega)
    by_cases hs : st c = 2
    · refine xw_t2G hr hj hs3 (br_t rfl (xw_wrZ hr hj (xm_f2 he) (by omega) ec hs ?_))
      unfold wX_setRef_21
      refine br_f xh_n4 ?_
      unfold wpY_setRef
      dsimp only
      refine yw_2G hr hj hs3 (yw_kdG hr hj he (by omega) ec (br_t hk0 ?_))
      rw [xh_cl (show j < 1000 by omega), ec, xh_cl (show c < 1000 by omega)]
      exact ⟨ij, ic, br_t hs ⟨rfl, zz_in J⟩⟩
    · refine xw_t2G hr hj hs3 (br_t rfl (xw_wrG hr hj (xm_f2 he) (by omega) ec hs ?_))
      have hY : ∀ (kk wX : Int32) (ql' : Int32), ((rt s = -1 ∧ kk = 0) ∨ (kk = 2 ∧ wX = rt s ∧ ∃ d, d < cap ∧ rt s = nI d ∧ ¬ st d = 0)) →
          wpY_setRef (fun r' v' => r' = 0 ∧ i_Rel (k + 4) (nI cap, nI rc, ql', st, tX, upd kX (2 * c + e) kk, upd vX (2 * c + e) wX, rt, re, qu, bl, nb) v') (nI cap, nI rc, rt, st, tY, kY, vY, mk, rl) (nI j) (nI e) (nI s) := by
        intro kk wX ql' hw
        unfold wpY_setRef
        dsimp only
        refine yw_2G hr hj hs3 (yw_kdG hr hj he (by omega) ec (br_t hk0 ?_))
        rw [xh_cl (show j < 1000 by omega), ec, xh_cl (show c < 1000 by omega), xm_pl, xh_cl (show s < 1000 by omega)]
        refine ⟨ij, ic, br_f hs ⟨ij, is, ?_⟩⟩
        rcases hw with ⟨es, ek⟩ | ⟨ek, ew, d, hd, ed, sd⟩
        · subst ek
          rw [es]
          refine br_f xh_m1' ?_
          unfold wY_setRef_80
          rw [xh_cl (show j < 1000 by omega), ec, xm_pl, xh_cl (show s < 1000 by omega), es]
          exact ⟨ip, xh_up (2 * c + e) ⟨ij, is, ip, xh_up (2 * c + e) ⟨rfl, zz_in (xm_I_w J hp (xm_ps he sc) (Or.inl rfl))⟩⟩⟩
        · subst ek
          rw [ed]
          refine br_t (nI_pos' (by omega)) ?_
          unfold wY_setRef_80
          rw [xh_cl (show j < 1000 by omega), ec, xm_pl, xh_cl (show s < 1000 by omega)]
          exact ⟨ip, xh_up (2 * c + e) ⟨ij, is, ip, xh_up (2 * c + e) ⟨rfl, zz_in (xm_I_w J hp (xm_ps he sc) (Or.inr (Or.inr ⟨rfl, ew, d, hd, ew.trans ed, sd⟩)))⟩⟩⟩
      unfold wX_setRef_21
      rw [xh_cl (show j < 1000 by omega), ec, xm_pl, xh_cl (show s < 1000 by omega)]
      refine br_t rfl ⟨ij, nm_e ⟨is, nm_e ?_⟩⟩
      rcases xm_RKw HR (show s < 8 by omega) with es | ⟨d, hd, ed, sd⟩
      · rw [es]
        exact br_f xh_m1' ⟨ip, xh_up (2 * c + e) ⟨ip, xh_up (2 * c + e) (hY 0 0 ql (Or.inl ⟨es, rfl⟩))⟩⟩
      · rw [ed]
        exact br_t (nI_pos' (by omega)) ⟨ip, xh_up (2 * c + e) ⟨ip, xh_up (2 * c + e) (hY 2 (nI d) ql (Or.inr ⟨rfl, ed.symm, d, hd, ed, sd⟩))⟩⟩
theorem i_vc_load {k : Nat} {u : SX} {v : SY} (I : i_Rel k u v) (hk : k + 4 ≤ 2050) (v1 : Int32) (v2 : Int32) (v3 : Int32) : wpX_load (fun r u' => wpY_load (fun r' v' => r' = r ∧ i_Rel (k + 4) u' v') v v1 v2 v3) u v1 v2 v3 := by
  refine zz_el (P := fun u v => wpX_load (fun r u' => wpY_load (fun r' v' => r' = r ∧ i_Rel (k + 4) u' v') v v1 v2 v3) u v1 v2 v3) ?_ I
  intro cap rc ql st rt tX kX vX re qu bl nb tY kY vY mk rl J
  have J0 := J
  obtain ⟨hc, hr, H, HR, A, N⟩ := J0
  have HY := xm_HK_ag A H
  unfold wpX_load
  dsimp only
  rcases xm_ix hr v1 with hb | ⟨d, hd, rfl⟩
  · refine xw_trB hb (br_f xh_n1 ?_)
    unfold wX_load_20
    refine br_f xh_n1 ?_
    unfold wpY_load
    dsimp only
    exact yw_brB hb (br_f xh_10 ⟨rfl, zz_in J⟩)
  refine xw_trG hr hd (br_t rfl ?_)
  rcases xm_rd hr HR v2 v3 with hb | ⟨j, hj, rfl, ⟨f0, f1⟩ | ⟨e, he, rfl, hn | ⟨c, hcc, ec, sc⟩⟩⟩
  · refine xw_rdB hb ?_
    unfold wX_load_20
    refine br_f xh_n1 ?_
    unfold wpY_load
    dsimp only
    exact yw_brG hr hd (br_t rfl (yw_kdB hb (br_f xh_m1' ⟨rfl, zz_in J⟩)))
  · refine xw_rdF hr hj f0 f1 ?_
    unfold wX_load_20
    refine br_f xh_n2 ?_
    unfold wpY_load
    dsimp only
    exact yw_brG hr hd (br_t rfl (yw_kdF hr hj f0 f1 (br_f xh_m2' ⟨rfl, zz_in J⟩)))
  · refine xw_rdN hr hj (xm_f2 he) hn ?_
    unfold wX_load_20
    refine br_f xh_n3 ?_
    unfold wpY_load
    dsimp only
    exact yw_brG hr hd (br_t rfl (yw_kdN hr hj (xm_f2 he) hn (br_f xh_m3' ⟨rfl, zz_in J⟩)))
  · have hp : 2 * c + e < 32 := by omega
    have hk0 : (0 : Int32) ≤ kY (2 * c + e) := xm_k0 HY hp (xm_ps he sc)
    obtain ⟨a1, a2⟩ := A.2 (2 * c + e) hp (xm_ps he sc)
    have ij : vp_in (nI j) 8 := xh_in (by omega) (by omega)
    have id' : vp_in (nI d) 8 := xh_in (by omega) (by omega)
    have ip : vp_in (nI (2 * c + e)) 32 := xh_in (by omega) (by omega)
    refine xw_rdG hr hj (xm_f2 he) (by omega) ec ?_
    unfold wX_load_20
    rw [xh_cl (show j < 1000 by omega), ec, xm_pl]
    refine br_t rfl ⟨ij, nm_e ⟨ip, ?_⟩⟩
    rw [xh_cl (show 2 * c + e < 1000 by omega)]
    rcases H.2.2 _ hp (xm_ps he sc) with q | q | ⟨q, t, ht, et, st'⟩
    · refine br_f (by rw [q]; decide) ⟨ip, br_f (by rw [q]; decide) ⟨id', xh_up d ?_⟩⟩
      unfold wpY_load
      dsimp only
      refine yw_brG hr hd (br_t rfl (yw_kdG hr hj he (by omega) ec (br_t hk0 ?_)))
      rw [← a1, q]
      exact br_f (by decide) (br_t rfl ⟨id', xh_up d ⟨rfl, zz_in (xm_I_rt J hd (Or.inl rfl))⟩⟩)
    · refine br_t q ?_
      unfold wpY_load
      dsimp only
      refine yw_brG hr hd (br_t rfl (yw_kdG hr hj he (by omega) ec (br_t hk0 ?_)))
      rw [← a1, q]
      exact br_t rfl ⟨rfl, zz_in J⟩
    · refine br_f (by rw [q]; decide) ⟨ip, br_t q ⟨ip, id', xh_up d ?_⟩⟩
      unfold wpY_load
      dsimp only
      refine yw_brG hr hd (br_t rfl (yw_kdG hr hj he (by omega) ec (br_t hk0 ?_)))
      rw [← a1, q, xh_cl (show j < 1000 by omega), ec, xm_pl, xh_cl (show 2 * c + e < 1000 by omega), ← a2 (by rw [q]; decide)]
      exact br_f (by decide) (br_f (by decide) ⟨ij, ip, id', xh_up d ⟨rfl, zz_in (xm_I_rt J hd (Or.inr ⟨t, ht, et, st'⟩))⟩⟩)
theorem i_vc_move {k : Nat} {u : SX} {v : SY} (I : i_Rel k u v) (hk : k + 4 ≤ 2050) (v1 : Int32) (v2 : Int32) : wpX_move (fun r u' => wpY_move (fun r' v' => r' = r ∧ i_Rel (k + 4) u' v') v v1 v2) u v1 v2 := by
  refine zz_el (P := fun u v => wpX_move (fun r u' => wpY_move (fun r' v' => r' = r ∧ i_Rel (k + 4) u' v') v v1 v2) u v1 v2) ?_ I
  intro cap rc ql st rt tX kX vX re qu bl nb tY kY vY mk rl J
  have J0 := J
  obtain ⟨hc, hr, H, HR, A, N⟩ := J0
  unfold wpX_move
  dsimp only
  rcases xm_ix2 hr v1 v2 with hb | ⟨i, j, hi, hj, rfl, rfl⟩
  · refine xw_t2B hr hb (br_f xh_n1 ?_)
    unfold wpY_move
    dsimp only
    exact yw_2B hr hb ⟨rfl, zz_in J⟩ ⟨rfl, zz_in J⟩
  have ii : vp_in (nI i) 8 := xh_in (by omega) (by omega)
  have ij : vp_in (nI j) 8 := xh_in (by omega) (by omega)
  refine xw_t2G hr hi hj (br_t rfl ⟨ij, ii, xh_up i ?_⟩)
  unfold wpY_move
  dsimp only
  refine yw_2G hr hi hj ⟨ij, ii, xh_up i ⟨rfl, ?_⟩⟩
  rw [xh_cl (show j < 1000 by omega)]
  exact zz_in (xm_I_rt J hi (xm_RKw HR (by omega)))
theorem i_vc_drop {k : Nat} {u : SX} {v : SY} (I : i_Rel k u v) (hk : k + 4 ≤ 2050) (v1 : Int32) : wpX_drop (fun r u' => wpY_drop (fun r' v' => r' = r ∧ i_Rel (k + 4) u' v') v v1) u v1 := by
  refine zz_el (P := fun u v => wpX_drop (fun r u' => wpY_drop (fun r' v' => r' = r ∧ i_Rel (k + 4) u' v') v v1) u v1) ?_ I
  intro cap rc ql st rt tX kX vX re qu bl nb tY kY vY mk rl J
  have J0 := J
  obtain ⟨hc, hr, H, HR, A, N⟩ := J0
  unfold wpX_drop
  dsimp only
  rcases xm_ix hr v1 with hb | ⟨i, hi, rfl⟩
  · refine xw_trB hb (br_f xh_n1 ?_)
    unfold wpY_drop
    dsimp only
    exact yw_brB hb (br_f xh_10 ⟨rfl, zz_in J⟩)
  have ii : vp_in (nI i) 8 := xh_in (by omega) (by omega)
  refine xw_trG hr hi (br_t rfl ⟨ii, xh_up i ?_⟩)
  unfold wpY_drop
  dsimp only
  exact yw_brG hr hi (br_t rfl ⟨ii, xh_up i ⟨rfl, zz_in (xm_I_rt J hi (Or.inl rfl))⟩⟩)
end
section
/-! part 13: the owed statements, the rest of the methods -/
theorem i_vc_freeze {k : Nat} {u : SX} {v : SY} (I : i_Rel k u v) (hk : k + 4 ≤ 2050) (v1 : Int32) : wpX_freeze (fun r u' => wpY_freeze (fun r' v' => r' = r ∧ i_Rel (k + 4) u' v') v v1) u v1 := by
  refine zz_el (P := fun u v => wpX_freeze (fun r u' => wpY_freeze (fun r' v' => r' = r ∧ i_Rel (k + 4) u' v') v v1) u v1) ?_ I
  intro cap rc ql st rt tX kX vX re qu bl nb tY kY vY mk rl J
  have J0 := J
  obtain ⟨hc, hr, H, HR, A, N⟩ := J0
  unfold wpX_freeze
  dsimp only
  rcases xm_ix hr v1 with hb | ⟨j, hj, rfl⟩
  · refine xw_tcB hb (br_f xh_n1 ?_)
    unfold wpY_freeze
    dsimp only
    exact yw_brB hb (br_f xh_10 ⟨rfl, zz_in J⟩)
  have ij : vp_in (nI j) 8 := xh_in (by omega) (by omega)
  rcases xm_RKw HR (show j < 8 by omega) with hn | ⟨c, hcc, ec, sc⟩
  · refine xw_tcN hr hj hn (br_f xh_n3 ?_)
    unfold wpY_freeze
    dsimp only
    refine yw_brG hr hj (br_t rfl ⟨ij, ?_⟩)
    rw [xh_cl (show j < 1000 by omega), hn]
    exact br_f xh_m1' ⟨rfl, zz_in J⟩
  · have ic : vp_in (nI c) 16 := xh_in (by omega) (by omega)
    refine xw_tcG hr hj (by omega) ec (br_t rfl ⟨ij, ?_⟩)
    rw [xh_cl (show j < 1000 by omega), ec]
    unfold wpX_freezeCell
    dsimp only
    rw [xh_cl (show c < 1000 by omega)]
    refine ⟨ic, br_c (fun e => ⟨ic, nm_e ?_⟩) (fun e => ?_)⟩
    · unfold wpY_freeze
      dsimp only
      refine yw_brG hr hj (br_t rfl ⟨ij, ?_⟩)
      rw [xh_cl (show j < 1000 by omega), ec, xh_cl (show c < 1000 by omega)]
      refine br_t (nI_pos' (by omega)) ⟨ij, ic, br_t e ?_⟩
      unfold wY_freeze_42
      rw [xh_cl (show j < 1000 by omega), ec]
      refine ⟨ij, ic, xh_up c ⟨rfl, zz_in (xm_I_st J (fun d => ?_) (fun d => ?_))⟩⟩
      · by_cases q : d = c
        · subst q; rw [pk_us, e]; exact ⟨fun z => absurd z (by decide), fun z => absurd z (by decide)⟩
        · rw [pk_un q]
      · by_cases q : d = c
        · subst q; rw [pk_us]; exact Or.inr (Or.inr rfl)
        · rw [pk_un q]; exact H.2.1 d
    · have e2 : st c = 2 := by
        rcases H.2.1 c with q | q | q
        · exact absurd q sc
        · exact absurd q e
        · exact q
      unfold wpY_freeze
      dsimp only
      refine yw_brG hr hj (br_t rfl ⟨ij, ?_⟩)
      rw [xh_cl (show j < 1000 by omega), ec, xh_cl (show c < 1000 by omega)]
      refine br_t (nI_pos' (by omega)) ⟨ij, ic, br_f e ?_⟩
      unfold wY_freeze_42
      rw [xh_cl (show j < 1000 by omega), ec]
      refine ⟨ij, ic, xh_up c ?_⟩
      rw [xm_upd_id e2]
      exact ⟨rfl, zz_in J⟩
theorem i_vc_freezeReach {k : Nat} {u : SX} {v : SY} (I : i_Rel k u v) (hk : k + 4 ≤ 2050) (v1 : Int32) : wpX_freezeReach (fun r u' => wpY_freezeReach (fun r' v' => r' = r ∧ i_Rel (k + 4) u' v') v v1) u v1 := by
  refine zz_el (P := fun u v => wpX_freezeReach (fun r u' => wpY_freezeReach (fun r' v' => r' = r ∧ i_Rel (k + 4) u' v') v v1) u v1) ?_ I
  intro cap rc ql st rt tX kX vX re qu bl nb tY kY vY mk rl J
  have J0 := J
  obtain ⟨hc, hr, H, HR, A, N⟩ := J0
  rcases xm_ix hr v1 with hb | ⟨j, hj, rfl⟩
  · refine xw_frB hb ?_
    unfold wpY_freezeReach
    dsimp only
    exact yw_brB hb (br_f xh_10 ⟨rfl, zz_in J⟩)
  have ij : vp_in (nI j) 8 := xh_in (by omega) (by omega)
  rcases xm_RKw HR (show j < 8 by omega) with hn | ⟨c, hcc, ec, sc⟩
  · refine xw_frN hr hj hn ?_
    unfold wpY_freezeReach
    dsimp only
    refine yw_brG hr hj (br_t rfl ⟨ij, ?_⟩)
    rw [xh_cl (show j < 1000 by omega), hn]
    exact br_f xh_m1' ⟨rfl, zz_in J⟩
  · refine xw_frG hc hr H hj ec hcc sc ?_
    intro q' st1 re' qu' F
    refine yw_frG hc hr (xm_HK_ag A H) hj ec hcc sc ?_
    intro st2 mk' F'
    have eL : xm_Lv kX vX (fun d => d = c) = xm_Lv kY vY (fun d => d = c) := xm_Lv_ag hc A H (fun d e => by subst e; exact ⟨hcc, sc⟩)
    rw [← eL] at F' ⊢
    rw [xm_FO_u F F']
    exact ⟨rfl, zz_in (xm_I_fo J F)⟩
theorem i_vc_collect {k : Nat} {u : SX} {v : SY} (I : i_Rel k u v) (hk : k + 4 ≤ 2050) : wpX_collect (fun r u' => wpY_collect (fun r' v' => r' = r ∧ i_Rel (k + 4) u' v') v) u := by
  refine zz_el (P := fun u v => wpX_collect (fun r u' => wpY_collect (fun r' v' => r' = r ∧ i_Rel (k + 4) u' v') v) u) ?_ I
  intro cap rc ql st rt tX kX vX re qu bl nb tY kY vY mk rl J
  have J0 := J
  obtain ⟨hc, hr, H, HR, A, N⟩ := J0
  refine xw_collect hc hr H HR N ?_
  intro q' rt1 st1 tg1 kd1 vl1 re1 qu1 bl1 nb1 PP oR oS oT oK
  refine yw_collect hc (xm_HK_ag A H) HR ?_
  intro rt2 st2 vl2 mk2 rl2 oR' oS' oV
  have eL : xm_Lv kX vX (xm_Rt rt) = xm_Lv kY vY (xm_Rt rt) := xm_Lv_ag hc A H (xm_Rt_of hc HR)
  have eB : xm_Bi st tX kX vX = xm_Bi st tY kY vY := xm_Bi_ag A
  rw [← eL, ← eB] at oR' oS' oV ⊢
  rw [xm_OR_u hc HR oR oR', xm_OS_u oS oS']
  exact ⟨rfl, zz_in (xm_I_col J PP oR oS oT oK oV)⟩
theorem i_vc_kind {k : Nat} {u : SX} {v : SY} (I : i_Rel k u v) (hk : k + 4 ≤ 2050) (v1 : Int32) (v2 : Int32) : wpX_kind (fun r => wpY_kind (fun r' => r' = r ∧ i_Rel (k + 4) u v) v v1 v2) u v1 v2 := by
  have I0 : i_Rel (k + 4) u v := I
  revert I0
  refine zz_el (P := fun u v => i_Rel (k + 4) u v → wpX_kind (fun r => wpY_kind (fun r' => r' = r ∧ i_Rel (k + 4) u v) v v1 v2) u v1 v2) ?_ I
  intro cap rc ql st rt tX kX vX re qu bl nb tY kY vY mk rl J I0
  obtain ⟨hc, hr, H, HR, A, N⟩ := J
  unfold wpX_kind
  dsimp only
  rcases xm_rd hr HR v1 v2 with hb | ⟨j, hj, rfl, ⟨f0, f1⟩ | ⟨e, he, rfl, hn | ⟨c, hcc, ec, sc⟩⟩⟩
  · exact xw_rdB hb (br_f xh_n1 (yw_kdB hb ⟨rfl, I0⟩))
  · exact xw_rdF hr hj f0 f1 (br_f xh_n2 (yw_kdF hr hj f0 f1 ⟨rfl, I0⟩))
  · exact xw_rdN hr hj (xm_f2 he) hn (br_f xh_n3 (yw_kdN hr hj (xm_f2 he) hn ⟨rfl, I0⟩))
  · refine xw_rdG hr hj (xm_f2 he) (by omega) ec (br_t rfl ?_)
    rw [xh_cl (show j < 1000 by omega), ec, xm_pl, xh_cl (show 2 * c + e < 1000 by omega)]
    exact ⟨xh_in (by omega) (by omega), xh_in (by omega) (by omega), yw_kdG hr hj he (by omega) ec ⟨(A.2 _ (by omega) (xm_ps he sc)).1.symm, I0⟩⟩
theorem i_vc_literal {k : Nat} {u : SX} {v : SY} (I : i_Rel k u v) (hk : k + 4 ≤ 2050) (v1 : Int32) (v2 : Int32) : wpX_literal (fun r => wpY_literal (fun r' => r' = r ∧ i_Rel (k + 4) u v) v v1 v2) u v1 v2 := by
  have I0 : i_Rel (k + 4) u v := I
  revert I0
  refine zz_el (P := fun u v => i_Rel (k + 4) u v → wpX_literal (fun r => wpY_literal (fun r' => r' = r ∧ i_Rel (k + 4) u v) v v1 v2) u v1 v2) ?_ I
  intro cap rc ql st rt tX kX vX re qu bl nb tY kY vY mk rl J I0
  obtain ⟨hc, hr, H, HR, A, N⟩ := J
  unfold wpX_literal
  dsimp only
  rcases xm_rd hr HR v1 v2 with hb | ⟨j, hj, rfl, ⟨f0, f1⟩ | ⟨e, he, rfl, hn | ⟨c, hcc, ec, sc⟩⟩⟩
  · refine xw_rdB hb (br_f xh_n1 ?_)
    unfold wpY_literal
    dsimp only
    exact yw_kdB hb (br_f (by decide) ⟨rfl, I0⟩)
  · refine xw_rdF hr hj f0 f1 (br_f xh_n2 ?_)
    unfold wpY_literal
    dsimp only
    exact yw_kdF hr hj f0 f1 (br_f (by decide) ⟨rfl, I0⟩)
  · refine xw_rdN hr hj (xm_f2 he) hn (br_f xh_n3 ?_)
    unfold wpY_literal
    dsimp only
    exact yw_kdN hr hj (xm_f2 he) hn (br_f (by decide) ⟨rfl, I0⟩)
  · have ij : vp_in (nI j) 8 := xh_in (by omega) (by omega)
    have ip : vp_in (nI (2 * c + e)) 32 := xh_in (by omega) (by omega)
    obtain ⟨a1, a2⟩ := A.2 (2 * c + e) (by omega) (xm_ps he sc)
    refine xw_rdG hr hj (xm_f2 he) (by omega) ec (br_t rfl ?_)
    rw [xh_cl (show j < 1000 by omega), ec, xm_pl]
    refine ⟨ij, nm_e ⟨ip, ?_⟩⟩
    rw [xh_cl (show 2 * c + e < 1000 by omega)]
    refine br_c (fun q => ⟨ip, ?_⟩) (fun q => ?_)
    · unfold wpY_literal
      dsimp only
      refine yw_kdG hr hj he (by omega) ec (br_t (a1.symm.trans q) ?_)
      rw [xh_cl (show j < 1000 by omega), ec, xm_pl, xh_cl (show 2 * c + e < 1000 by omega)]
      exact ⟨ij, ip, (a2 (fun z => xm_n01 z q)).symm, I0⟩
    · unfold wpY_literal
      dsimp only
      exact yw_kdG hr hj he (by omega) ec (br_f (fun z => q (a1.trans z)) ⟨rfl, I0⟩)
theorem i_vc_tag {k : Nat} {u : SX} {v : SY} (I : i_Rel k u v) (hk : k + 4 ≤ 2050) (v1 : Int32) : wpX_tag (fun r => wpY_tag (fun r' => r' = r ∧ i_Rel (k + 4) u v) v v1) u v1 := by
  have I0 : i_Rel (k + 4) u v := I
  revert I0
  refine zz_el (P := fun u v => i_Rel (k + 4) u v → wpX_tag (fun r => wpY_tag (fun r' => r' = r ∧ i_Rel (k + 4) u v) v v1) u v1) ?_ I
  intro cap rc ql st rt tX kX vX re qu bl nb tY kY vY mk rl J I0
  obtain ⟨hc, hr, H, HR, A, N⟩ := J
  unfold wpX_tag
  dsimp only
  rcases xm_ix hr v1 with hb | ⟨j, hj, rfl⟩
  · refine xw_tcB hb (br_f xh_n1 ?_)
    unfold wpY_tag
    dsimp only
    exact yw_brB hb (br_f xh_10 ⟨rfl, I0⟩)
  have ij : vp_in (nI j) 8 := xh_in (by omega) (by omega)
  rcases xm_RKw HR (show j < 8 by omega) with hn | ⟨c, hcc, ec, sc⟩
  · refine xw_tcN hr hj hn (br_f xh_n3 ?_)
    unfold wpY_tag
    dsimp only
    refine yw_brG hr hj (br_t rfl ⟨ij, ?_⟩)
    rw [xh_cl (show j < 1000 by omega), hn]
    exact br_f xh_m1' ⟨rfl, I0⟩
  · have ic : vp_in (nI c) 16 := xh_in (by omega) (by omega)
    refine xw_tcG hr hj (by omega) ec (br_t rfl ⟨ij, ?_⟩)
    rw [xh_cl (show j < 1000 by omega), ec, xh_cl (show c < 1000 by omega)]
    refine ⟨ic, ?_⟩
    unfold wpY_tag
    dsimp only
    refine yw_brG hr hj (br_t rfl ⟨ij, ?_⟩)
    rw [xh_cl (show j < 1000 by omega), ec, xh_cl (show c < 1000 by omega)]
    exact br_t (nI_pos' (by omega)) ⟨ij, ic, (A.1 c (by omega) sc).symm, I0⟩
theorem i_vc_state {k : Nat} {u : SX} {v : SY} (I : i_Rel k u v) (hk : k + 4 ≤ 2050) (v1 : Int32) : wpX_state (fun r => wpY_state (fun r' => r' = r ∧ i_Rel (k + 4) u v) v v1) u v1 := by
  have I0 : i_Rel (k + 4) u v := I
  revert I0
  refine zz_el (P := fun u v => i_Rel (k + 4) u v → wpX_state (fun r => wpY_state (fun r' => r' = r ∧ i_Rel (k + 4) u v) v v1) u v1) ?_ I
  intro cap rc ql st rt tX kX vX re qu bl nb tY kY vY mk rl J I0
  obtain ⟨hc, hr, H, HR, A, N⟩ := J
  unfold wpX_state
  dsimp only
  rcases xm_ix hr v1 with hb | ⟨j, hj, rfl⟩
  · refine xw_trB hb (br_f xh_n1 ?_)
    unfold wpY_state
    dsimp only
    exact yw_brB hb (br_f xh_10 ⟨rfl, I0⟩)
  have ij : vp_in (nI j) 8 := xh_in (by omega) (by omega)
  refine xw_trG hr hj (br_t rfl ⟨ij, ?_⟩)
  rcases xm_RKw HR (show j < 8 by omega) with hn | ⟨c, hcc, ec, sc⟩
  · rw [xh_cl (show j < 1000 by omega), hn]
    refine br_f xh_m1' ?_
    unfold wpY_state
    dsimp only
    refine yw_brG hr hj (br_t rfl ⟨ij, ?_⟩)
    rw [xh_cl (show j < 1000 by omega), hn]
    exact br_f xh_m1' ⟨rfl, I0⟩
  · have ic : vp_in (nI c) 16 := xh_in (by omega) (by omega)
    rw [xh_cl (show j < 1000 by omega), ec, xh_cl (show c < 1000 by omega)]
    refine br_t (nI_pos' (by omega)) ⟨ij, ic, ?_⟩
    unfold wpY_state
    dsimp only
    refine yw_brG hr hj (br_t rfl ⟨ij, ?_⟩)
    rw [xh_cl (show j < 1000 by omega), ec, xh_cl (show c < 1000 by omega)]
    exact br_t (nI_pos' (by omega)) ⟨ij, ic, rfl, I0⟩
theorem i_vc_same {k : Nat} {u : SX} {v : SY} (I : i_Rel k u v) (hk : k + 4 ≤ 2050) (v1 : Int32) (v2 : Int32) : wpX_same (fun r => wpY_same (fun r' => r' = r ∧ i_Rel (k + 4) u v) v v1 v2) u v1 v2 := by
  have I0 : i_Rel (k + 4) u v := I
  revert I0
  refine zz_el (P := fun u v => i_Rel (k + 4) u v → wpX_same (fun r => wpY_same (fun r' => r' = r ∧ i_Rel (k + 4) u v) v v1 v2) u v1 v2) ?_ I
  intro cap rc ql st rt tX kX vX re qu bl nb tY kY vY mk rl J I0
  obtain ⟨hc, hr, H, HR, A, N⟩ := J
  unfold wpX_same
  dsimp only
  rcases xm_ix2 hr v1 v2 with hb | ⟨i, j, hi, hj, rfl, rfl⟩
  · refine xw_c2B hr hb (br_f xh_n1 ?_)
    unfold wpY_same
    dsimp only
    exact yw_2B hr hb ⟨rfl, I0⟩ ⟨rfl, I0⟩
  have ii : vp_in (nI i) 8 := xh_in (by omega) (by omega)
  have ij : vp_in (nI j) 8 := xh_in (by omega) (by omega)
  rcases xm_RKw HR (show i < 8 by omega) with hn | ⟨c, hcc, ec, sc⟩
  · refine xw_c2N1 hr hi hj hn (br_f xh_n3 ?_)
    unfold wpY_same
    dsimp only
    refine yw_2G hr hi hj ⟨ii, ?_⟩
    rw [xh_cl (show i < 1000 by omega), hn]
    exact br_t xh_m1 ⟨rfl, I0⟩
  rcases xm_RKw HR (show j < 8 by omega) with hn | ⟨d, hdc, ed, sd⟩
  · refine xw_c2N2 hr hi hj (by omega) ec hn (br_f xh_n3 ?_)
    unfold wpY_same
    dsimp only
    refine yw_2G hr hi hj ⟨ii, ?_⟩
    rw [xh_cl (show i < 1000 by omega), ec, xh_cl (show j < 1000 by omega), hn]
    exact br_f (nI_pos (by omega)) ⟨ij, br_f xh_m1' ⟨rfl, I0⟩⟩
  · refine xw_c2G hr hi hj (by omega) (by omega) ec ed (br_t rfl ⟨ii, ij, ?_⟩)
    rw [xh_cl (show i < 1000 by omega), ec, xh_cl (show j < 1000 by omega), ed]
    refine br_c (fun q => ?_) (fun q => ?_)
    · unfold wpY_same
      dsimp only
      refine yw_2G hr hi hj ⟨ii, ?_⟩
      rw [xh_cl (show i < 1000 by omega), ec, xh_cl (show j < 1000 by omega), ed]
      exact br_f (nI_pos (by omega)) ⟨ij, br_t (nI_pos' (by omega)) ⟨ii, ij, br_t q ⟨rfl, I0⟩⟩⟩
    · unfold wpY_same
      dsimp only
      refine yw_2G hr hi hj ⟨ii, ?_⟩
      rw [xh_cl (show i < 1000 by omega), ec, xh_cl (show j < 1000 by omega), ed]
      exact br_f (nI_pos (by omega)) ⟨ij, br_t (nI_pos' (by omega)) ⟨ii, ij, br_f q ⟨rfl, I0⟩⟩⟩
theorem i_vc_alike {k : Nat} {u : SX} {v : SY} (I : i_Rel k u v) (hk : k + 4 ≤ 2050) (v1 : Int32) (v2 : Int32) : wpX_alike (fun r u' => wpY_alike (fun r' v' => r' = r ∧ i_Rel (k + 4) u' v') v v1 v2) u v1 v2 := by
  refine zz_el (P := fun u v => wpX_alike (fun r u' => wpY_alike (fun r' v' => r' = r ∧ i_Rel (k + 4) u' v') v v1 v2) u v1 v2) ?_ I
  intro cap rc ql st rt tX kX vX re qu bl nb tY kY vY mk rl J
  have J0 := J
  obtain ⟨hc, hr, H, HR, A, N⟩ := J0
  unfold wpX_alike
  dsimp only
  rcases xm_ix2 hr v1 v2 with hb | ⟨i, j, hi, hj, rfl, rfl⟩
  · refine xw_c2B hr hb (br_f xh_n1 ?_)
    unfold wpY_alike
    dsimp only
    exact yw_2B hr hb ⟨rfl, zz_in J⟩ ⟨rfl, zz_in J⟩
  have ii : vp_in (nI i) 8 := xh_in (by omega) (by omega)
  have ij : vp_in (nI j) 8 := xh_in (by omega) (by omega)
  rcases xm_RKw HR (show i < 8 by omega) with hn | ⟨c, hcc, ec, sc⟩
  · refine xw_c2N1 hr hi hj hn (br_f xh_n3 ?_)
    unfold wpY_alike
    dsimp only
    refine yw_2G hr hi hj ⟨ii, ?_⟩
    rw [xh_cl (show i < 1000 by omega), hn]
    exact br_t xh_m1 ⟨rfl, zz_in J⟩
  rcases xm_RKw HR (show j < 8 by omega) with hn | ⟨d, hdc, ed, sd⟩
  · refine xw_c2N2 hr hi hj (by omega) ec hn (br_f xh_n3 ?_)
    unfold wpY_alike
    dsimp only
    refine yw_2G hr hi hj ⟨ii, ?_⟩
    rw [xh_cl (show i < 1000 by omega), ec, xh_cl (show j < 1000 by omega), hn]
    exact br_f (nI_pos (by omega)) ⟨ij, br_f xh_m1' ⟨rfl, zz_in J⟩⟩
  · refine xw_c2G hr hi hj (by omega) (by omega) ec ed (br_t rfl ?_)
    refine xw_part hc hr H HR ?_
    intro q1 re1 qu1 bl1 nb1 HL PP
    dsimp only
    have hLc : xm_Lv kX vX (xm_Rt rt) c := xm_Lv_s ⟨by omega, i, by omega, ec⟩
    have hLd : xm_Lv kX vX (xm_Rt rt) d := xm_Lv_s ⟨by omega, j, by omega, ed⟩
    have hiff := xm_BK_iff hc PP.1 PP.2 hLc hLd hcc hdc
    have hY : ∀ b : Int32, ((b = 1 ∧ xm_Bi st tX kX vX c d) ∨ (b = 0 ∧ ¬ xm_Bi st tX kX vX c d)) →
        wpY_alike (fun r' v' => r' = b ∧ i_Rel (k + 4) (nI cap, nI rc, q1, st, tX, kX, vX, rt, re1, qu1, bl1, nb1) v') (nI cap, nI rc, rt, st, tY, kY, vY, mk, rl) (nI i) (nI j) := by
      intro b hb
      rw [xm_Bi_ag A] at hb
      unfold wpY_alike
      dsimp only
      refine yw_2G hr hi hj ⟨ii, ?_⟩
      rw [xh_cl (show i < 1000 by omega), ec, xh_cl (show j < 1000 by omega), ed]
      refine br_f (nI_pos (by omega)) ⟨ij, br_t (nI_pos' (by omega)) ?_⟩
      refine yw_alike hc (xm_HK_ag A H) ?_
      intro rl1 HB
      dsimp only
      rw [ec, ed, xh_16 c, nI_add, xh_cl (show 16 * c + d < 1000 by omega)]
      have hcd := HB c d (by omega) (by omega)
      refine ⟨ii, ij, xh_in (by omega) (by omega), br_c (fun z => ⟨?_, zz_in J⟩) (fun z => ⟨?_, zz_in J⟩)⟩
      · rcases hb with ⟨_, w⟩ | ⟨e, _⟩
        · exact absurd z (hcd.mpr w)
        · exact e.symm
      · rcases hb with ⟨e, _⟩ | ⟨_, w⟩
        · exact e.symm
        · exact absurd (hcd.mp z) w
    rw [xh_cl (show i < 1000 by omega), ec, xh_cl (show j < 1000 by omega), ed, xh_cl (show c < 1000 by omega), xh_cl (show d < 1000 by omega)]
    exact ⟨ii, xh_in (by omega) (by omega), ij, xh_in (by omega) (by omega), br_c (fun z => hY 1 (Or.inl ⟨rfl, hiff.mp z⟩)) (fun z => hY 0 (Or.inr ⟨rfl, fun w => z (hiff.mpr w)⟩))⟩
theorem i_vc_census {k : Nat} {u : SX} {v : SY} (I : i_Rel k u v) (hk : k + 4 ≤ 2050) (v1 : Int32) : wpX_census (fun r u' => wpY_census (fun r' v' => r' = r ∧ i_Rel (k + 4) u' v') v v1) u v1 := by
  refine zz_el (P := fun u v => wpX_census (fun r u' => wpY_census (fun r' v' => r' = r ∧ i_Rel (k + 4) u' v') v v1) u v1) ?_ I
  intro cap rc ql st rt tX kX vX re qu bl nb tY kY vY mk rl J
  have J0 := J
  obtain ⟨hc, hr, H, HR, A, N⟩ := J0
  have HY := xm_HK_ag A H
  have eL : xm_Lv kX vX (xm_Rt rt) = xm_Lv kY vY (xm_Rt rt) := xm_Lv_ag hc A H (xm_Rt_of hc HR)
  have eB : xm_Bi st tX kX vX = xm_Bi st tY kY vY := xm_Bi_ag A
  have n1 : ∀ c, cap ≤ c → ¬ st c = 1 := fun c hcc z => xm_n01 (H.1 c hcc) z
  have n2 : ∀ c, cap ≤ c → ¬ st c = 2 := fun c hcc z => xm_n02 (H.1 c hcc) z
  unfold wpX_census
  dsimp only
  refine br_c (fun e => ?_) (fun e0 => br_c (fun e => ?_) (fun e1 => br_c (fun e => ?_) (fun e2 => br_c (fun e => ?_) (fun e3 => br_c (fun e => ?_) (fun e4 => ?_)))))
  · refine xw_countAll hc n1 ?_
    rw [e]
    refine yw_census (w := 0) (by omega) hc HY HR (fun mk' rl' => ⟨congrArg nI (cz_eq (fun c _ => ?_)), zz_in J⟩)
    exact ⟨fun z => z.1, fun z => ⟨z, fun q => absurd q (by omega), fun q => absurd q (by omega)⟩⟩
  · refine xw_countAll hc n2 ?_
    rw [e]
    refine yw_census (w := 1) (by omega) hc HY HR (fun mk' rl' => ⟨congrArg nI (cz_eq (fun c _ => ?_)), zz_in J⟩)
    exact ⟨fun z => z.1, fun z => ⟨z, fun q => absurd q (by omega), fun q => absurd q (by omega)⟩⟩
  · refine xw_countLive hc hr H HR (fun q' re' qu' => ?_)
    rw [e]
    refine yw_census (w := 2) (by omega) hc HY HR (fun mk' rl' => ⟨congrArg nI (cz_eq (fun c _ => ?_)), zz_in J⟩)
    rw [eL]
    exact ⟨fun z => ⟨z.2.1 (by omega), z.1⟩, fun z => ⟨z.2, fun _ => z.1, fun q => absurd q (by omega)⟩⟩
  · refine xw_countLive hc hr H HR (fun q' re' qu' => ?_)
    rw [e]
    refine yw_census (w := 3) (by omega) hc HY HR (fun mk' rl' => ⟨congrArg nI (cz_eq (fun c _ => ?_)), zz_in J⟩)
    rw [eL]
    exact ⟨fun z => ⟨z.2.1 (by omega), z.1⟩, fun z => ⟨z.2, fun _ => z.1, fun q => absurd q (by omega)⟩⟩
  · refine xw_countClasses hc hr H HR (fun q' re' qu' bl' nb' => ?_)
    rw [e]
    refine yw_census (w := 4) (by omega) hc HY HR (fun mk' rl' => ⟨congrArg nI (cz_eq (fun c _ => ?_)), zz_in J⟩)
    rw [eL, eB]
    exact ⟨fun z => ⟨z.1, z.2.1 (by omega), z.2.2 rfl⟩, fun z => ⟨z.1, fun _ => z.2.1, fun _ => z.2.2⟩⟩
  · unfold wpY_census
    dsimp only
    refine br_c (fun _ => ⟨rfl, zz_in J⟩) (fun h0 => ?_)
    obtain ⟨w, hw, rfl⟩ := nI_of h0
    have h4 : ¬ w ≤ 4 := by
      intro q
      rcases (by omega : w = 0 ∨ w = 1 ∨ w = 2 ∨ w = 3 ∨ w = 4) with z | z | z | z | z
      · subst z; exact e0 rfl
      · subst z; exact e1 rfl
      · subst z; exact e2 rfl
      · subst z; exact e3 rfl
      · subst z; exact e4 rfl
    exact br_f (nI_ge (a := 4) (by omega) hw) ⟨rfl, zz_in J⟩
/-! the constructors -/
def xm_Cp (v lo hi : Int32) (c : Nat) : Prop := (¬ lo ≤ v ∧ nI c = lo) ∨ (lo ≤ v ∧ ¬ v ≤ hi ∧ nI c = hi) ∨ (lo ≤ v ∧ v ≤ hi ∧ v = nI c)
theorem xm_Cp_ex (v : Int32) {a b : Nat} (hab : a ≤ b) (hb : b < 1000) : ∃ c, a ≤ c ∧ c ≤ b ∧ xm_Cp v (nI a) (nI b) c := by
  by_cases h1 : nI a ≤ v
  · by_cases h2 : v ≤ nI b
    · have h0 : ¬ v < 0 := fun z => Int32.not_lt.mpr (Int32.le_trans (nI_pos' (n := a) (by omega)) h1) z
      obtain ⟨c, hc, rfl⟩ := nI_of h0
      exact ⟨c, (nI_leI (by omega) hc).mp h1, (nI_leI hc (by omega)).mp h2, Or.inr (Or.inr ⟨h1, h2, rfl⟩)⟩
    · exact ⟨b, hab, Nat.le_refl _, Or.inr (Or.inl ⟨h1, h2, rfl⟩)⟩
  · exact ⟨a, Nat.le_refl _, hab, Or.inl ⟨h1, rfl⟩⟩
theorem xw_clamp {post : Int32 → Prop} {f1 f2 f3 : Int32} {a1 a2 a3 a4 a5 a6 a7 a8 a9 : Nat → Int32} {v lo hi : Int32} {c : Nat} (h : xm_Cp v lo hi c) (hp : post (nI c)) : wpX_clamp post (f1, f2, f3, a1, a2, a3, a4, a5, a6, a7, a8, a9) v lo hi := by
  unfold wpX_clamp
  dsimp only
  rcases h with ⟨h1, e⟩ | ⟨h1, h2, e⟩ | ⟨h1, h2, e⟩
  · rw [← e]; rw [← e] at h1; exact br_f h1 hp
  · rw [← e]; rw [← e] at h2; exact br_t h1 (br_f h2 hp)
  · rw [← e] at hp; exact br_t h1 (br_t h2 hp)
theorem xm_rt_s {i : Nat} : upd (fun r => if r < i then (-1 : Int32) else 0) i (-1) = (fun r => if r < i + 1 then (-1 : Int32) else 0) := by
  funext r
  by_cases e : r = i
  · subst e; rw [pk_us, if_pos (by omega)]
  · rw [pk_un e]
    by_cases h : r < i
    · rw [if_pos h, if_pos (by omega)]
    · rw [if_neg h, if_neg (by omega)]
theorem yw_init0 {post : SY → Prop} {c r : Nat} (hp : post (nI c, nI r, (fun r => if r < 8 then (-1 : Int32) else 0), (fun _ => 0), (fun _ => 0), (fun _ => 0), (fun _ => 0), (fun _ => 0), (fun _ => 0))) :
    ∃ n, wY_init_115 post (nI c) (nI r) n 0 (fun _ => 0) (fun _ => 0) (fun _ => 0) (fun _ => 0) (fun _ => 0) (fun _ => 0) (fun _ => 0) := by
  refine loop_0 (fun n i (s : Nat → Int32) => wY_init_115 post (nI c) (nI r) n (nI i) s (fun _ => 0) (fun _ => 0) (fun _ => 0) (fun _ => 0) (fun _ => 0) (fun _ => 0)) (fun i s => s = (fun r => if r < i then (-1 : Int32) else 0)) 8 (fun _ => 0) ?_ ?_ ?_
  · funext r; rw [if_neg (by omega)]
  · intro n s e
    have e' : s = _ := e
    rw [e']
    exact br_t xh_g8 hp
  · intro n i s hi e k
    have e' : s = _ := e
    refine br_f (xh_l8 hi) ⟨xh_in hi (by omega), xh_up i (nm_r (nI_1 i) (k _ ?_))⟩
    rw [e']
    exact xm_rt_s
theorem xw_init0 {post : SX → Prop} {c r : Nat} (hp : post (nI c, nI r, 0, (fun _ => 0), (fun _ => 0), (fun _ => 0), (fun _ => 0), (fun r => if r < 8 then (-1 : Int32) else 0), (fun _ => 0), (fun _ => 0), (fun _ => 0), (fun _ => 0))) :
    ∃ n, wX_init_103 post (nI c) (nI r) 0 n 0 (fun _ => 0) (fun _ => 0) (fun _ => 0) (fun _ => 0) (fun _ => 0) (fun _ => 0) (fun _ => 0) (fun _ => 0) (fun _ => 0) := by
  refine loop_0 (fun n i (s : Nat → Int32) => wX_init_103 post (nI c) (nI r) 0 n (nI i) (fun _ => 0) (fun _ => 0) (fun _ => 0) (fun _ => 0) s (fun _ => 0) (fun _ => 0) (fun _ => 0) (fun _ => 0)) (fun i s => s = (fun r => if r < i then (-1 : Int32) else 0)) 8 (fun _ => 0) ?_ ?_ ?_
  · funext r; rw [if_neg (by omega)]
  · intro n s e
    have e' : s = _ := e
    rw [e']
    exact br_t xh_g8 hp
  · intro n i s hi e k
    have e' : s = _ := e
    refine br_f (xh_l8 hi) ⟨xh_in hi (by omega), xh_up i (nm_r (nI_1 i) (k _ ?_))⟩
    rw [e']
    exact xm_rt_s
theorem yw_init85 {post : SY → Prop} {k1 : Int32} {c r : Nat} (h : xm_Cp k1 4 8 r) (hp : post (nI c, nI r, (fun r => if r < 8 then (-1 : Int32) else 0), (fun _ => 0), (fun _ => 0), (fun _ => 0), (fun _ => 0), (fun _ => 0), (fun _ => 0))) :
    wY_init_85 post k1 (nI c) 0 0 (fun _ => 0) (fun _ => 0) (fun _ => 0) (fun _ => 0) (fun _ => 0) (fun _ => 0) (fun _ => 0) := by
  unfold wY_init_85
  rcases h with ⟨h1, e⟩ | ⟨h1, h2, e⟩ | ⟨h1, h2, e⟩
  · refine br_f h1 ?_
    rw [← e]
    exact yw_init0 hp
  · refine br_t h1 (br_f h2 ?_)
    rw [← e]
    exact yw_init0 hp
  · refine br_t h1 (br_t h2 ?_)
    rw [e]
    exact yw_init0 hp
theorem yw_init {post : SY → Prop} {k0 k1 : Int32} {c r : Nat} (h0 : xm_Cp k0 8 16 c) (h : xm_Cp k1 4 8 r) (hp : post (nI c, nI r, (fun r => if r < 8 then (-1 : Int32) else 0), (fun _ => 0), (fun _ => 0), (fun _ => 0), (fun _ => 0), (fun _ => 0), (fun _ => 0))) :
    wpY_init post k0 k1 := by
  unfold wpY_init
  rcases h0 with ⟨h1, e⟩ | ⟨h1, h2, e⟩ | ⟨h1, h2, e⟩
  · refine br_f h1 ?_
    have := yw_init85 h hp
    rw [e] at this
    exact this
  · refine br_t h1 (br_f h2 ?_)
    have := yw_init85 h hp
    rw [e] at this
    exact this
  · refine br_t h1 (br_t h2 ?_)
    rw [e]
    exact yw_init85 h hp
theorem i_vc0 (k0 : Int32) (k1 : Int32) : wpX_init (fun u => wpY_init (fun v => i_Rel 2 u v) k0 k1) k0 k1 := by
  obtain ⟨c, c1, c2, C⟩ := xm_Cp_ex k0 (a := 8) (b := 16) (by omega) (by omega)
  obtain ⟨r, r1, r2, R⟩ := xm_Cp_ex k1 (a := 4) (b := 8) (by omega) (by omega)
  unfold wpX_init
  refine xw_clamp C ?_
  refine xw_clamp R ?_
  refine xw_init0 ?_
  refine yw_init C R ?_
  refine zz_in ⟨c2, r2, ⟨fun _ _ => rfl, fun _ => Or.inl rfl, fun p _ h => absurd rfl h⟩, fun r hr8 => Or.inl (if_pos hr8), ⟨fun _ _ _ => rfl, fun p _ h => absurd rfl h⟩, fun p _ _ z => xm_n02 (x := 0) rfl z⟩
end
