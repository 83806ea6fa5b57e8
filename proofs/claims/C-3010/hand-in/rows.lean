section
/-! rows pasted from PURE-ROWS -/
theorem pk_us {f : Nat → Int32} {k : Nat} {x : Int32} : upd f k x k = x := if_pos rfl
theorem pk_un {f : Nat → Int32} {k j : Nat} {x : Int32} (h : j ≠ k) : upd f k x j = f j := if_neg h
theorem pk_sub {a b : Nat} (h : b ≤ a) : nI a - nI b = nI (a - b) := by
  obtain ⟨c, rfl⟩ : ∃ c, a = c + b := ⟨a - b, by omega⟩
  rw [← nI_add, Int32.add_sub_cancel, Nat.add_sub_cancel]
theorem pk_m1 (n : Nat) : nI (n + 1) + (-1) = nI n := by
  rw [← nI_1, Int32.add_assoc, show (1 : Int32) + (-1) = 0 from rfl, Int32.add_zero]
theorem pk_mul (a b : Nat) : nI a * nI b = nI (a * b) := (Int32.ofNat_mul a b).symm
theorem pk_div {a d : Nat} (ha : a < 2 ^ 31) (h0 : 0 < d) (hd : d < 2 ^ 31) : nI a / nI d = nI (a / d) := by
  apply Int32.toInt_inj.mp
  rw [lg_idiv_nonneg (by rw [nI_toInt ha]; omega) (by rw [nI_toInt hd]; omega), nI_toInt ha, nI_toInt hd, nI_toInt (Nat.lt_of_le_of_lt (Nat.div_le_self a d) ha)]
  first | rfl | exact (Int.natCast_ediv _ _).symm
theorem pk_rem {a d : Nat} (ha : a < 2 ^ 31) (h0 : 0 < d) (hd : d < 2 ^ 31) : nI a - nI a / nI d * nI d = nI (a % d) := by
  rw [pk_div ha h0 hd, pk_mul, pk_sub (Nat.div_mul_le_self a d)]
  exact congrArg nI (by have := Nat.div_add_mod' a d; omega)
theorem pk_ix (x : Int32) {n : Nat} (hn : n < 2 ^ 31) : x < 0 ∨ nI n ≤ x ∨ ∃ j : Nat, j < n ∧ x = nI j := by
  by_cases h : x < 0
  · exact Or.inl h
  · obtain ⟨j, hj, rfl⟩ := nI_of h
    by_cases h2 : j < n
    · exact Or.inr (Or.inr ⟨j, h2, rfl⟩)
    · exact Or.inr (Or.inl (nI_le (by omega) hj))
theorem pk_le {x y : Int32} {A B : Prop} (a b : Nat) (f : a ≤ b → A) (g : b < a → B) (hx : x = nI a := by rfl) (hy : y = nI b := by rfl) (ha : a < 2 ^ 31 := by omega) (hb : b < 2 ^ 31 := by omega) : (x ≤ y → A) ∧ (¬ x ≤ y → B) := by
  subst hx hy
  rw [nI_leI ha hb]
  exact ⟨f, fun z => g (by omega)⟩
theorem pk_lt {x y : Int32} {A B : Prop} (a b : Nat) (f : a < b → A) (g : b ≤ a → B) (hx : x = nI a := by rfl) (hy : y = nI b := by rfl) (ha : a < 2 ^ 31 := by omega) (hb : b < 2 ^ 31 := by omega) : (x < y → A) ∧ (¬ x < y → B) := by
  subst hx hy
  rw [nI_ltI ha hb]
  exact ⟨f, fun z => g (by omega)⟩
theorem pk_eq {x y : Int32} {A B : Prop} (a b : Nat) (f : a = b → A) (g : a ≠ b → B) (hx : x = nI a := by rfl) (hy : y = nI b := by rfl) (ha : a < 2 ^ 31 := by omega) (hb : b < 2 ^ 31 := by omega) : (x = y → A) ∧ (¬ x = y → B) := by
  subst hx hy
  rw [nI_eq ha hb]
  exact ⟨f, g⟩
theorem pk_in {x : Int32} (n N : Nat) (h : n < N) (hx : x = nI n := by rfl) (hN : N < 2 ^ 31 := by omega) : vp_in x N := by
  subst hx
  exact vp_in_nI h hN
theorem pk_cl {x : Int32} (n : Nat) (hx : x = nI n := by rfl) (h : n < 2 ^ 31 := by omega) : x.toNatClampNeg = n := by
  subst hx
  exact nI_clamp h
theorem pk_tn {n : Nat} (h : n < 2 ^ 32) : (nI n).toBitVec.toNat = n := Nat.mod_eq_of_lt h
theorem pk_and (x : Int32) {m : Int32} (k : Nat) (hm : m.toBitVec.toNat = 2 ^ k - 1) : x &&& m = nI (x.toBitVec.toNat % 2 ^ k) := by
  apply Int32.toBitVec_inj.mp
  apply BitVec.eq_of_toNat_eq
  rw [Int32.toBitVec_and, BitVec.toNat_and, hm, Nat.and_two_pow_sub_one_eq_mod]
  show _ = (BitVec.ofNat 32 _).toNat
  rw [BitVec.toNat_ofNat]
  exact (Nat.mod_eq_of_lt (Nat.lt_of_le_of_lt (Nat.mod_le _ _) x.toBitVec.isLt)).symm
theorem pk_andE (x : Int32) {m : Int32} (k : Nat) (hm : m.toBitVec.toNat = 2 ^ k - 1) : ∃ j : Nat, j < 2 ^ k ∧ x &&& m = nI j := ⟨_, Nat.mod_lt _ (Nat.two_pow_pos k), pk_and x k hm⟩
end
section
/-! the pure grammar: D = (base, code, first part, second part); outcomes of token t at place p at 21 * t + p -/
abbrev PgD : Type := (Nat → Nat → Option Int32) × (Nat → Int32) × (Nat → Nat) × (Nat → Nat)
abbrev pg_sec (c r : Int32) : Prop := (c = 4 ∧ 0 ≤ r) ∨ (c = 5 ∧ r < 0) ∨ (c = 6 ∧ 0 < r)
def pg_tk (c r : Int32) : Int32 := if c = 5 then 0 else r
def pg_fin (c r : Int32) : Int32 := if c = 6 ∨ c = 7 then (if 0 ≤ r then r else 0) else if c = 8 then (if 0 ≤ r then 0 else -1) else if c = 9 then (if 0 ≤ r then -1 else 0) else r
def pg_G2 (a r : Int32) : Int32 := if r = -2 then -2 else if 0 ≤ r then a + r else -1
def pg_G1 (c : Int32) (i : Nat) (w : Nat → Int32) (r : Int32) : Int32 :=
  if r = -2 then -2 else if pg_sec c r then pg_G2 (pg_tk c r) (w (i + (pg_tk c r).toNatClampNeg)) else pg_fin c r
def pg_F (D : PgD) (w : Nat → Int32) (t p : Nat) : Int32 := match D.1 t p with
  | some v => v
  | none => pg_G1 (D.2.1 t) (21 * D.2.2.2 t + p) w (w (21 * D.2.2.1 t + p))
theorem pg_F_some {D : PgD} {w : Nat → Int32} {t p : Nat} {v : Int32} (h : D.1 t p = some v) : pg_F D w t p = v := by
  unfold pg_F; rw [h]
theorem pg_F_none {D : PgD} {w : Nat → Int32} {t p : Nat} (h : D.1 t p = none) : pg_F D w t p = pg_G1 (D.2.1 t) (21 * D.2.2.2 t + p) w (w (21 * D.2.2.1 t + p)) := by
  unfold pg_F; rw [h]
def pg_R (ln p : Nat) (v : Int32) : Prop := v = -2 ∨ v = -1 ∨ ∃ a, p + a ≤ ln ∧ v = nI a
def pg_W (D : PgD) (ln T : Nat) : Prop := T ≤ 40 ∧ ln ≤ 20 ∧ (∀ t p, t < T → p ≤ ln → D.1 t p = none → D.2.2.1 t < T ∧ (D.2.1 t = 4 ∨ D.2.1 t = 5 ∨ D.2.1 t = 6 → D.2.2.2 t < T)) ∧ (∀ t p v, t < T → p ≤ ln → D.1 t p = some v → pg_R ln p v)
def pg_ok (ln : Nat) (w : Nat → Int32) : Prop := ∀ t p, t < 40 → p ≤ ln → pg_R ln p (w (21 * t + p))
def pg_le (w w' : Nat → Int32) : Prop := ∀ i, i < 840 → w i = -2 ∨ w i = w' i
theorem pg_ne {a : Nat} (h : a < 2 ^ 31) {v : Int32} (hv : v < 0) : nI a ≠ v := fun e => nI_pos h (by rw [e]; exact hv)
theorem pg_secC {c r : Int32} (h : pg_sec c r) : c = 4 ∨ c = 5 ∨ c = 6 := by
  rcases h with h | h | h
  · exact Or.inl h.1
  · exact Or.inr (Or.inl h.1)
  · exact Or.inr (Or.inr h.1)
theorem pg_tkN {ln p : Nat} {c r : Int32} (hp : p ≤ ln) (hr : pg_R ln p r) (hs : pg_sec c r) : ∃ a, p + a ≤ ln ∧ pg_tk c r = nI a := by
  unfold pg_tk
  by_cases h5 : c = 5
  · rw [if_pos h5]; exact ⟨0, by omega, nI_0.symm⟩
  · rw [if_neg h5]
    have h0 : 0 ≤ r := by
      rcases hs with h | h | h
      · exact h.2
      · exact absurd h.1 h5
      · exact Int32.le_of_lt h.2
    rcases hr with h | h | ⟨a, ha, h⟩
    · rw [h] at h0; exact absurd h0 (by decide)
    · rw [h] at h0; exact absurd h0 (by decide)
    · exact ⟨a, ha, h⟩
theorem pg_G2_2 (a : Int32) : pg_G2 a (-2) = -2 := if_pos rfl
theorem pg_G2_R {ln p a : Nat} {r : Int32} (hl : ln ≤ 20) (hr : pg_R ln (p + a) r) : pg_R ln p (pg_G2 (nI a) r) := by
  unfold pg_G2
  rcases hr with h | h | ⟨b, hb, h⟩
  · rw [h, if_pos rfl]; exact Or.inl rfl
  · rw [h, if_neg (by decide), if_neg (by decide)]; exact Or.inr (Or.inl rfl)
  · rw [h, if_neg (pg_ne (by omega) (by decide)), if_pos (nI_pos' (by omega)), nI_add]
    exact Or.inr (Or.inr ⟨a + b, by omega, rfl⟩)
theorem pg_fin_R {ln p : Nat} {c r : Int32} (hp : p ≤ ln) (hr : pg_R ln p r) : pg_R ln p (pg_fin c r) := by
  have z : pg_R ln p 0 := Or.inr (Or.inr ⟨0, by omega, nI_0.symm⟩)
  have m : pg_R ln p (-1) := Or.inr (Or.inl rfl)
  unfold pg_fin
  repeat' split
  all_goals first | exact hr | exact z | exact m
theorem pg_F_R {D : PgD} {ln T : Nat} {w : Nat → Int32} {t p : Nat} (W : pg_W D ln T) (ok : pg_ok ln w) (ht : t < T) (hp : p ≤ ln) : pg_R ln p (pg_F D w t p) := by
  obtain ⟨hT, hl, hn, hs⟩ := W
  cases hb : D.1 t p with
  | some v => rw [pg_F_some hb]; exact hs t p v ht hp hb
  | none =>
    rw [pg_F_none hb]
    obtain ⟨h1, h2⟩ := hn t p ht hp hb
    have hr := ok (D.2.2.1 t) p (by omega) hp
    generalize w (21 * D.2.2.1 t + p) = r at hr ⊢
    unfold pg_G1
    by_cases e : r = -2
    · rw [if_pos e]; exact Or.inl rfl
    · rw [if_neg e]
      by_cases s : pg_sec (D.2.1 t) r
      · rw [if_pos s]
        obtain ⟨a, ha, ea⟩ := pg_tkN hp hr s
        have hr2 := ok (D.2.2.2 t) (p + a) (by have := h2 (pg_secC s); omega) ha
        rw [ea, nI_clamp (by omega), Nat.add_assoc]
        exact pg_G2_R hl hr2
      · rw [if_neg s]; exact pg_fin_R hp hr
theorem pg_F_mono {D : PgD} {ln T : Nat} {w w' : Nat → Int32} {t p : Nat} (W : pg_W D ln T) (ok : pg_ok ln w) (le : pg_le w w') (ht : t < T) (hp : p ≤ ln) : pg_F D w t p = -2 ∨ pg_F D w t p = pg_F D w' t p := by
  obtain ⟨hT, hl, hn, hs⟩ := W
  cases hb : D.1 t p with
  | some v => right; rw [pg_F_some hb, pg_F_some hb]
  | none =>
    rw [pg_F_none (w := w) hb, pg_F_none (w := w') hb]
    obtain ⟨h1, h2⟩ := hn t p ht hp hb
    have hr := ok (D.2.2.1 t) p (by omega) hp
    have e1 := le (21 * D.2.2.1 t + p) (by omega)
    rcases e1 with e1 | e1
    · left; unfold pg_G1; rw [if_pos e1]
    · rw [← e1]
      generalize w (21 * D.2.2.1 t + p) = r at hr ⊢
      unfold pg_G1
      by_cases e : r = -2
      · left; rw [if_pos e]
      · rw [if_neg e, if_neg e]
        by_cases s : pg_sec (D.2.1 t) r
        · rw [if_pos s, if_pos s]
          obtain ⟨a, ha, ea⟩ := pg_tkN hp hr s
          have e2 := le (21 * D.2.2.2 t + p + a) (by have := h2 (pg_secC s); omega)
          rw [ea, nI_clamp (by omega)]
          rcases e2 with e2 | e2
          · left; rw [e2]; exact pg_G2_2 _
          · right; rw [e2]
        · right; rw [if_neg s, if_neg s]
def pg_it (D : PgD) (ln T : Nat) : Nat → Nat → Int32
  | 0 => fun _ => -2
  | k + 1 => fun i => if i / 21 < T ∧ i % 21 ≤ ln then pg_F D (pg_it D ln T k) (i / 21) (i % 21) else -2
theorem pg_it_s {D : PgD} {ln T k i : Nat} : pg_it D ln T (k + 1) i = if i / 21 < T ∧ i % 21 ≤ ln then pg_F D (pg_it D ln T k) (i / 21) (i % 21) else -2 := rfl
theorem pg_q {t p : Nat} (hp : p ≤ 20) : (21 * t + p) / 21 = t := by omega
theorem pg_r {t p : Nat} (hp : p ≤ 20) : (21 * t + p) % 21 = p := by omega
theorem pg_it_at {D : PgD} {ln T k t p : Nat} (hl : ln ≤ 20) (ht : t < T) (hp : p ≤ ln) : pg_it D ln T (k + 1) (21 * t + p) = pg_F D (pg_it D ln T k) t p := by
  rw [pg_it_s, pg_q (by omega), pg_r (by omega), if_pos ⟨ht, hp⟩]
theorem pg_it_ok {D : PgD} {ln T : Nat} (W : pg_W D ln T) : ∀ k, pg_ok ln (pg_it D ln T k) := by
  intro k
  induction k with
  | zero => intro t p _ _; exact Or.inl rfl
  | succ k ih =>
    intro t p ht hp
    have hl := W.2.1
    rw [pg_it_s, pg_q (by omega), pg_r (by omega)]
    by_cases c : t < T ∧ p ≤ ln
    · rw [if_pos c]; exact pg_F_R W ih c.1 c.2
    · rw [if_neg c]; exact Or.inl rfl
theorem pg_it_mono {D : PgD} {ln T : Nat} (W : pg_W D ln T) : ∀ k, pg_le (pg_it D ln T k) (pg_it D ln T (k + 1)) := by
  intro k
  induction k with
  | zero => intro i _; exact Or.inl rfl
  | succ k ih =>
    intro i hi
    rw [pg_it_s (k := k), pg_it_s (k := k + 1)]
    by_cases c : i / 21 < T ∧ i % 21 ≤ ln
    · rw [if_pos c, if_pos c]; exact pg_F_mono W (pg_it_ok W k) ih c.1 c.2
    · left; rw [if_neg c]
theorem pg_le_refl (w : Nat → Int32) : pg_le w w := fun _ _ => Or.inr rfl
theorem pg_le_trans {a b c : Nat → Int32} (h : pg_le a b) (g : pg_le b c) : pg_le a c := by
  intro i hi
  rcases h i hi with e | e
  · exact Or.inl e
  · rcases g i hi with f | f
    · exact Or.inl (e.trans f)
    · exact Or.inr (e.trans f)
theorem pg_it_le {D : PgD} {ln T : Nat} (W : pg_W D ln T) {k : Nat} : ∀ d, pg_le (pg_it D ln T k) (pg_it D ln T (k + d)) := by
  intro d
  induction d with
  | zero => exact pg_le_refl _
  | succ d ih => exact pg_le_trans ih (pg_it_mono W (k + d))
theorem pg_it_out {D : PgD} {ln T k i : Nat} (h : ¬ (i / 21 < T ∧ i % 21 ≤ ln)) : pg_it D ln T k i = -2 := by
  cases k with
  | zero => rfl
  | succ k => rw [pg_it_s, if_neg h]
theorem pg_stab {D : PgD} {ln T : Nat} (W : pg_W D ln T) : ∀ n, n ≤ 840 → ∃ K, ∀ k i, K ≤ k → i < n → pg_it D ln T k i = pg_it D ln T K i := by
  intro n
  induction n with
  | zero => intro _; exact ⟨0, fun k i _ h => absurd h (Nat.not_lt_zero i)⟩
  | succ n ih =>
    intro hn
    obtain ⟨K, hK⟩ := ih (by omega)
    by_cases ex : ∃ k, pg_it D ln T k n ≠ -2
    · obtain ⟨k0, h0⟩ := ex
      refine ⟨K + k0, fun k i hk hi => ?_⟩
      by_cases e : i = n
      · subst e
        have key : ∀ d, pg_it D ln T (k0 + d) i = pg_it D ln T k0 i := fun d => by
          rcases pg_it_le W (k := k0) d i (by omega) with z | z
          · exact absurd z h0
          · exact z.symm
        obtain ⟨d, rfl⟩ : ∃ d, k = k0 + d := ⟨k - k0, by omega⟩
        rw [key d, Nat.add_comm K k0, key K]
      · rw [hK k i (by omega) (by omega), hK (K + k0) i (by omega) (by omega)]
    · refine ⟨K, fun k i hk hi => ?_⟩
      by_cases e : i = n
      · subst e
        have key : ∀ k, pg_it D ln T k i = -2 := fun k => Classical.byContradiction fun z => ex ⟨k, z⟩
        rw [key k, key K]
      · exact hK k i hk (by omega)
noncomputable def pg_K (D : PgD) (ln T : Nat) : Nat := Classical.epsilon (fun K => ∀ k i, K ≤ k → pg_it D ln T k i = pg_it D ln T K i)
noncomputable def pg_L (D : PgD) (ln T : Nat) : Nat → Int32 := pg_it D ln T (pg_K D ln T)
theorem pg_lim {D : PgD} {ln T : Nat} (W : pg_W D ln T) : ∀ k i, pg_K D ln T ≤ k → pg_it D ln T k i = pg_L D ln T i := by
  have h : ∃ K, ∀ k i, K ≤ k → pg_it D ln T k i = pg_it D ln T K i := by
    obtain ⟨K, hK⟩ := pg_stab W 840 (by omega)
    refine ⟨K, fun k i hk => ?_⟩
    by_cases hi : i < 840
    · exact hK k i hk hi
    · have hT := W.1
      have hn : ¬ (i / 21 < T ∧ i % 21 ≤ ln) := by omega
      rw [pg_it_out hn, pg_it_out hn]
  exact Classical.epsilon_spec h
theorem pg_L_fix {D : PgD} {ln T t p : Nat} (W : pg_W D ln T) (ht : t < T) (hp : p ≤ ln) : pg_L D ln T (21 * t + p) = pg_F D (pg_L D ln T) t p := by
  rw [← pg_lim W (pg_K D ln T + 1) _ (by omega)]
  exact pg_it_at W.2.1 ht hp
theorem pg_L_out {D : PgD} {ln T i : Nat} (h : ¬ (i / 21 < T ∧ i % 21 ≤ ln)) : pg_L D ln T i = -2 := pg_it_out h
theorem pg_L_ok {D : PgD} {ln T : Nat} (W : pg_W D ln T) : pg_ok ln (pg_L D ln T) := pg_it_ok W _
theorem pg_it_L {D : PgD} {ln T : Nat} (W : pg_W D ln T) (k : Nat) : pg_le (pg_it D ln T k) (pg_L D ln T) := by
  have h := pg_it_le W (k := k) (pg_K D ln T)
  intro i hi
  rcases h i hi with e | e
  · exact Or.inl e
  · right; rw [e]; exact pg_lim W _ _ (by omega)
/-- an assignment below L that no rule changes is L -/
theorem pg_L_top {D : PgD} {ln T : Nat} {o : Nat → Int32} (W : pg_W D ln T) (ho : pg_le o (pg_L D ln T)) (hc : ∀ i, i / 21 < T → i % 21 ≤ ln → o i = -2 → pg_F D o (i / 21) (i % 21) = -2) : ∀ i, i < 840 → o i = pg_L D ln T i := by
  have key : ∀ k, pg_le (pg_it D ln T k) o := by
    intro k
    induction k with
    | zero => intro i _; exact Or.inl rfl
    | succ k ih =>
      intro i hi
      by_cases c : i / 21 < T ∧ i % 21 ≤ ln
      · by_cases z : o i = -2
        · left
          rw [pg_it_s, if_pos c]
          rcases pg_F_mono W (pg_it_ok W k) ih c.1 c.2 with e | e
          · exact e
          · rw [e]; exact hc i c.1 c.2 z
        · rcases ho i hi with e | e
          · exact absurd e z
          · rw [e]; exact pg_it_L W (k + 1) i hi
      · left; exact pg_it_out c
  intro i hi
  rcases key (pg_K D ln T) i hi with e | e
  · rcases ho i hi with f | f
    · rw [f]; exact e.symm
    · exact f
  · exact e.symm
/-- what needs itself has no outcome -/
theorem pg_L_bot {D : PgD} {ln T : Nat} {C : Nat → Prop} (W : pg_W D ln T) (hc : ∀ w, pg_le w (pg_L D ln T) → (∀ i, C i → w i = -2) → ∀ i, C i → i / 21 < T → i % 21 ≤ ln → pg_F D w (i / 21) (i % 21) = -2) : ∀ i, C i → pg_L D ln T i = -2 := by
  have key : ∀ k i, C i → pg_it D ln T k i = -2 := by
    intro k
    induction k with
    | zero => intro i _; rfl
    | succ k ih =>
      intro i hi
      by_cases c : i / 21 < T ∧ i % 21 ≤ ln
      · rw [pg_it_s, if_pos c]; exact hc _ (pg_it_L W k) ih i hi c.1 c.2
      · exact pg_it_out c
  exact key _
theorem pg_sim_it {D D' : PgD} {ln T T' : Nat} {φ : Nat → Nat} (W : pg_W D ln T) (hl : ∀ t, t < T → φ t < T') (hb : ∀ t p, t < T → p ≤ ln → D'.1 (φ t) p = D.1 t p) (hc : ∀ t, t < T → D'.2.1 (φ t) = D.2.1 t) (h1 : ∀ t p, t < T → p ≤ ln → D.1 t p = none → D'.2.2.1 (φ t) = φ (D.2.2.1 t)) (h2 : ∀ t p, t < T → p ≤ ln → D.1 t p = none → (D.2.1 t = 4 ∨ D.2.1 t = 5 ∨ D.2.1 t = 6) → D'.2.2.2 (φ t) = φ (D.2.2.2 t)) : ∀ k t p, t < T → p ≤ ln → pg_it D' ln T' k (21 * φ t + p) = pg_it D ln T k (21 * t + p) := by
  intro k
  induction k with
  | zero => intro t p _ _; rfl
  | succ k ih =>
    intro t p ht hp
    have ok := pg_it_ok W k
    obtain ⟨hT, hln, hn, _⟩ := W
    rw [pg_it_at hln (hl t ht) hp, pg_it_at hln ht hp]
    cases e : D.1 t p with
    | some v => rw [pg_F_some e, pg_F_some ((hb t p ht hp).trans e)]
    | none =>
      obtain ⟨g1, g2⟩ := hn t p ht hp e
      rw [pg_F_none e, pg_F_none ((hb t p ht hp).trans e), hc t ht, h1 t p ht hp e, ih _ p g1 hp]
      have hr := ok (D.2.2.1 t) p (by omega) hp
      generalize pg_it D ln T k (21 * D.2.2.1 t + p) = r at hr ⊢
      unfold pg_G1
      by_cases z : r = -2
      · rw [if_pos z, if_pos z]
      · rw [if_neg z, if_neg z]
        by_cases s : pg_sec (D.2.1 t) r
        · rw [if_pos s, if_pos s]
          obtain ⟨a, ha, ea⟩ := pg_tkN hp hr s
          rw [ea, nI_clamp (by omega), h2 t p ht hp e (pg_secC s), Nat.add_assoc, Nat.add_assoc, ih _ (p + a) (g2 (pg_secC s)) ha]
        · rw [if_neg s, if_neg s]
theorem pg_sim {D D' : PgD} {ln T T' : Nat} {φ : Nat → Nat} (W : pg_W D ln T) (W' : pg_W D' ln T') (hl : ∀ t, t < T → φ t < T') (hb : ∀ t p, t < T → p ≤ ln → D'.1 (φ t) p = D.1 t p) (hc : ∀ t, t < T → D'.2.1 (φ t) = D.2.1 t) (h1 : ∀ t p, t < T → p ≤ ln → D.1 t p = none → D'.2.2.1 (φ t) = φ (D.2.2.1 t)) (h2 : ∀ t p, t < T → p ≤ ln → D.1 t p = none → (D.2.1 t = 4 ∨ D.2.1 t = 5 ∨ D.2.1 t = 6) → D'.2.2.2 (φ t) = φ (D.2.2.2 t)) : ∀ t p, t < T → p ≤ ln → pg_L D' ln T' (21 * φ t + p) = pg_L D ln T (21 * t + p) := by
  intro t p ht hp
  rw [← pg_lim W (pg_K D ln T + pg_K D' ln T') _ (by omega), ← pg_lim W' (pg_K D ln T + pg_K D' ln T') _ (by omega)]
  exact pg_sim_it W hl hb hc h1 h2 _ t p ht hp
/-! counts -/
def pg_cnt (v : Int32) (o : Nat → Int32) : Nat → Nat
  | 0 => 0
  | n + 1 => pg_cnt v o n + (if o n = v then 1 else 0)
theorem pg_cnt_le (v : Int32) (o : Nat → Int32) : ∀ n, pg_cnt v o n ≤ n := by
  intro n
  induction n with
  | zero => exact Nat.le_refl _
  | succ n ih =>
    show pg_cnt v o n + (if o n = v then 1 else 0) ≤ n + 1
    split <;> omega
theorem pg_cnt_hi {v x : Int32} {o : Nat → Int32} {i : Nat} : ∀ n, n ≤ i → pg_cnt v (upd o i x) n = pg_cnt v o n := by
  intro n
  induction n with
  | zero => intro _; rfl
  | succ n ih =>
    intro h
    show pg_cnt v (upd o i x) n + (if upd o i x n = v then 1 else 0) = pg_cnt v o n + (if o n = v then 1 else 0)
    rw [ih (by omega), pk_un (by omega)]
theorem pg_cnt_dec {v x : Int32} {o : Nat → Int32} {i : Nat} (ho : o i = v) (hx : x ≠ v) : ∀ n, i < n → pg_cnt v (upd o i x) n + 1 = pg_cnt v o n := by
  intro n
  induction n with
  | zero => intro h; omega
  | succ n ih =>
    intro h
    show pg_cnt v (upd o i x) n + (if upd o i x n = v then 1 else 0) + 1 = pg_cnt v o n + (if o n = v then 1 else 0)
    by_cases e : n = i
    · subst e
      rw [pg_cnt_hi n (Nat.le_refl _), pk_us, if_neg hx, if_pos ho]
    · rw [pk_un e]
      have := ih (by omega)
      omega
theorem pg_cnt_keep {v x : Int32} {o : Nat → Int32} {i : Nat} (hx : x ≠ v) : ∀ n, pg_cnt v (upd o i x) n ≤ pg_cnt v o n := by
  intro n
  induction n with
  | zero => exact Nat.le_refl _
  | succ n ih =>
    show pg_cnt v (upd o i x) n + (if upd o i x n = v then 1 else 0) ≤ pg_cnt v o n + (if o n = v then 1 else 0)
    by_cases e : n = i
    · subst e
      rw [pk_us, if_neg hx]
      omega
    · rw [pk_un e]
      omega
end
section
/-! X's machine, pure: what waits for what, the memo, the moves -/
def px_Q (D : PgD) (ln N s n p : Nat) (a : Int32) (q : Nat) : Prop :=
  D.1 n p = none ∧ ((s = 1 ∧ q = 21 * D.2.2.1 n + p) ∨ (s = 2 ∧ pg_L D ln N (21 * D.2.2.1 n + p) ≠ -2 ∧ pg_sec (D.2.1 n) (pg_L D ln N (21 * D.2.2.1 n + p)) ∧ a = pg_tk (D.2.1 n) (pg_L D ln N (21 * D.2.2.1 n + p)) ∧ q = 21 * D.2.2.2 n + p + a.toNatClampNeg))
def px_E (D : PgD) (ln N dp : Nat) (oc wt sg tk : Nat → Int32) (k : Nat) : Prop :=
  ∃ n p, n < N ∧ p ≤ ln ∧ wt k = nI (21 * n + p) ∧ ((sg k = 0 ∧ k + 1 = dp) ∨ ∃ s q, sg k = nI s ∧ px_Q D ln N s n p (tk k) q ∧ ((k + 1 < dp ∧ wt (k + 1) = nI q) ∨ (k + 1 = dp ∧ oc q = pg_L D ln N q ∧ pg_L D ln N q ≠ -2)))
def px_M (D : PgD) (ln N dp : Nat) (oc wt : Nat → Int32) (i : Nat) : Prop :=
  oc i = -3 ∨ (oc i = -4 ∧ ∃ k, k < dp ∧ wt k = nI i) ∨ (i / 21 < N ∧ i % 21 ≤ ln ∧ oc i = pg_L D ln N i)
def px_I (D : PgD) (ln N dp : Nat) (oc wt sg tk : Nat → Int32) : Prop :=
  dp + pg_cnt (-3) oc 840 ≤ 840 ∧ (∀ i, i < 840 → px_M D ln N dp oc wt i) ∧ (∀ k, k < dp → px_E D ln N dp oc wt sg tk k)
def px_sm (sg : Nat → Int32) : Nat → Nat
  | 0 => 0
  | k + 1 => px_sm sg k + (3 - (sg k).toNatClampNeg)
def px_mu (oc sg : Nat → Int32) (dp : Nat) : Nat := 3 * pg_cnt (-3) oc 840 + px_sm sg dp
/-- a move of the machine -/
def px_S (D : PgD) (ln N dp : Nat) (oc sg : Nat → Int32) (dp' : Nat) (oc' wt' sg' tk' : Nat → Int32) : Prop :=
  px_I D ln N dp' oc' wt' sg' tk' ∧ px_mu oc' sg' dp' < px_mu oc sg dp ∧ ∀ j, oc j ≠ -3 → oc' j ≠ -3
def px_Z (D : PgD) (ln N : Nat) (oc : Nat → Int32) : Prop :=
  ∀ i, i < 840 → oc i = -3 ∨ (i / 21 < N ∧ i % 21 ≤ ln ∧ oc i = pg_L D ln N i)
theorem px_sm_hi {sg : Nat → Int32} {i : Nat} {x : Int32} : ∀ k, k ≤ i → px_sm (upd sg i x) k = px_sm sg k := by
  intro k
  induction k with
  | zero => intro _; rfl
  | succ k ih =>
    intro h
    show px_sm (upd sg i x) k + (3 - (upd sg i x k).toNatClampNeg) = px_sm sg k + (3 - (sg k).toNatClampNeg)
    rw [ih (by omega), pk_un (by omega)]
theorem px_R {D : PgD} {ln N i : Nat} (W : pg_W D ln N) (h1 : i / 21 < N) (h2 : i % 21 ≤ ln) : pg_R ln (i % 21) (pg_L D ln N i) := by
  have hN := W.1
  have h := pg_L_ok W (i / 21) (i % 21) (by omega) h2
  have e : 21 * (i / 21) + i % 21 = i := by omega
  rw [e] at h
  exact h
theorem px_v34 {D : PgD} {ln N i : Nat} (W : pg_W D ln N) (h1 : i / 21 < N) (h2 : i % 21 ≤ ln) : pg_L D ln N i ≠ -3 ∧ pg_L D ln N i ≠ -4 := by
  have hl := W.2.1
  rcases px_R W h1 h2 with e | e | ⟨a, ha, e⟩
  · rw [e]; decide
  · rw [e]; decide
  · rw [e]; exact ⟨pg_ne (by omega) (by decide), pg_ne (by omega) (by decide)⟩
theorem px_Q_in {D : PgD} {ln N s n p q : Nat} {a : Int32} (W : pg_W D ln N) (hn : n < N) (hp : p ≤ ln) (h : px_Q D ln N s n p a q) : q / 21 < N ∧ q % 21 ≤ ln ∧ q < 840 := by
  have ok := pg_L_ok W
  obtain ⟨hN, hl, hw, _⟩ := W
  obtain ⟨hb, h⟩ := h
  obtain ⟨h1, h2⟩ := hw n p hn hp hb
  rcases h with ⟨_, hq⟩ | ⟨_, hne, hs, ha, hq⟩
  · rw [hq]; omega
  · obtain ⟨b, hb, eb⟩ := pg_tkN hp (ok _ p (by omega) hp) hs
    have h3 := h2 (pg_secC hs)
    rw [hq, ha, eb, nI_clamp (by omega)]
    omega
theorem px_Q_s {D : PgD} {ln N s n p q : Nat} {a : Int32} (h : px_Q D ln N s n p a q) : 1 ≤ s ∧ s ≤ 2 := by
  rcases h.2 with h | h
  · omega
  · omega
theorem px_Q_strict {D : PgD} {ln N s n p q : Nat} {a : Int32} {w : Nat → Int32} (W : pg_W D ln N) (hn : n < N) (hp : p ≤ ln) (h : px_Q D ln N s n p a q) (le : pg_le w (pg_L D ln N)) (hw : w q = -2) : pg_F D w n p = -2 := by
  obtain ⟨hN, hl, hd, _⟩ := W
  obtain ⟨hb, h⟩ := h
  obtain ⟨h1, h2⟩ := hd n p hn hp hb
  rw [pg_F_none hb]
  unfold pg_G1
  rcases h with ⟨_, hq⟩ | ⟨_, hne, hs, ha, hq⟩
  · rw [hq] at hw; rw [if_pos hw]
  · rcases le (21 * D.2.2.1 n + p) (by omega) with z | z
    · rw [if_pos z]
    · rw [z, if_neg hne, if_pos hs, ← ha, ← hq, hw]
      exact pg_G2_2 _
theorem px_sg {D : PgD} {ln N dp k : Nat} {oc wt sg tk : Nat → Int32} (h : px_E D ln N dp oc wt sg tk k) : (sg k).toNatClampNeg ≤ 2 := by
  obtain ⟨n, p, _, _, _, h⟩ := h
  rcases h with ⟨e, _⟩ | ⟨s, q, e, hq, _⟩
  · rw [e]; decide
  · have := px_Q_s hq
    rw [e, nI_clamp (by omega)]; exact this.2
theorem px_finish {D : PgD} {ln N top i : Nat} {oc wt sg tk : Nat → Int32} {v : Int32} (W : pg_W D ln N) (I : px_I D ln N (top + 1) oc wt sg tk) (hi : i < 840) (hw : wt top = nI i) (h1 : i / 21 < N) (h2 : i % 21 ≤ ln) (hv : v = pg_L D ln N i) (hne : v ≠ -2) : px_S D ln N (top + 1) oc sg top (upd oc i v) wt sg tk := by
  obtain ⟨hc, hm, he⟩ := I
  have n3 : v ≠ -3 := by rw [hv]; exact (px_v34 W h1 h2).1
  have hk := pg_cnt_keep (o := oc) (i := i) n3 840
  have hs := px_sg (he top (by omega))
  refine ⟨⟨by omega, fun j hj => ?_, fun k hk => ?_⟩, ?_, fun j hj => ?_⟩
  · by_cases e : j = i
    · subst e; exact Or.inr (Or.inr ⟨h1, h2, by rw [pk_us]; exact hv⟩)
    · unfold px_M
      rw [pk_un e]
      rcases hm j hj with z | ⟨z, k, hk, ek⟩ | z
      · exact Or.inl z
      · refine Or.inr (Or.inl ⟨z, k, ?_, ek⟩)
        have hkt : k ≠ top := fun ez => e (by
          subst ez
          rw [hw] at ek
          exact ((nI_eq (by omega) (by omega)).mp ek).symm)
        omega
      · exact Or.inr (Or.inr z)
  · obtain ⟨n, p, hn, hp, ew, h⟩ := he k (by omega)
    refine ⟨n, p, hn, hp, ew, Or.inr ?_⟩
    rcases h with ⟨_, z⟩ | ⟨s, q, es, hq, z | z⟩
    · exact absurd z (by omega)
    · refine ⟨s, q, es, hq, ?_⟩
      by_cases e : k + 1 = top
      · right
        have hqi : q = i := by
          have hin := px_Q_in W hn hp hq
          have e2 := z.2
          rw [e, hw] at e2
          exact ((nI_eq (by omega) (by omega)).mp e2).symm
        rw [hqi]
        refine ⟨e, ?_, ?_⟩
        · rw [pk_us]; exact hv
        · rw [← hv]; exact hne
      · exact Or.inl ⟨by omega, z.2⟩
    · exact absurd z.1 (by omega)
  · show 3 * pg_cnt (-3) (upd oc i v) 840 + px_sm sg top < 3 * pg_cnt (-3) oc 840 + (px_sm sg top + (3 - (sg top).toNatClampNeg))
    omega
  · by_cases e : j = i
    · rw [e, pk_us]; exact n3
    · rw [pk_un e]; exact hj
theorem px_known {D : PgD} {ln N top n p s q : Nat} {oc wt sg tk tk' : Nat → Int32} (I : px_I D ln N (top + 1) oc wt sg tk) (hn : n < N) (hp : p ≤ ln) (hw : wt top = nI (21 * n + p)) (hq : px_Q D ln N s n p (tk' top) q) (hs : (sg top).toNatClampNeg < s) (ht : ∀ k, k < top → tk' k = tk k) (hk : oc q = pg_L D ln N q) (hne : pg_L D ln N q ≠ -2) : px_S D ln N (top + 1) oc sg (top + 1) oc wt (upd sg top (nI s)) tk' := by
  obtain ⟨hc, hm, he⟩ := I
  have hs2 := px_Q_s hq
  refine ⟨⟨hc, hm, fun k hkt => ?_⟩, ?_, fun j hj => hj⟩
  · by_cases e : k = top
    · subst e
      exact ⟨n, p, hn, hp, hw, Or.inr ⟨s, q, pk_us, hq, Or.inr ⟨rfl, hk, hne⟩⟩⟩
    · have h := he k hkt
      unfold px_E at h ⊢
      rw [pk_un e, ht k (by omega)]
      exact h
  · show 3 * pg_cnt (-3) oc 840 + (px_sm (upd sg top (nI s)) top + (3 - (upd sg top (nI s) top).toNatClampNeg)) < 3 * pg_cnt (-3) oc 840 + (px_sm sg top + (3 - (sg top).toNatClampNeg))
    rw [px_sm_hi top (Nat.le_refl _), pk_us, nI_clamp (by omega)]
    omega
theorem px_push {D : PgD} {ln N top n p s q : Nat} {oc wt sg tk tk' : Nat → Int32} (W : pg_W D ln N) (I : px_I D ln N (top + 1) oc wt sg tk) (hn : n < N) (hp : p ≤ ln) (hw : wt top = nI (21 * n + p)) (hq : px_Q D ln N s n p (tk' top) q) (hs : (sg top).toNatClampNeg < s) (ht : ∀ k, k < top → tk' k = tk k) (hk : oc q = -3) : px_S D ln N (top + 1) oc sg (top + 2) (upd oc q (-4)) (upd wt (top + 1) (nI q)) (upd (upd sg top (nI s)) (top + 1) 0) tk' := by
  obtain ⟨hc, hm, he⟩ := I
  have hs2 := px_Q_s hq
  obtain ⟨hq1, hq2, hq3⟩ := px_Q_in W hn hp hq
  have hd := pg_cnt_dec (x := -4) hk (by decide) 840 hq3
  refine ⟨⟨by omega, fun j hj => ?_, fun k hkt => ?_⟩, ?_, fun j hj => ?_⟩
  · by_cases e : j = q
    · subst e
      exact Or.inr (Or.inl ⟨pk_us, top + 1, by omega, pk_us⟩)
    · unfold px_M
      rw [pk_un e]
      rcases hm j hj with z | ⟨z, k, hk, ek⟩ | z
      · exact Or.inl z
      · exact Or.inr (Or.inl ⟨z, k, by omega, by rw [pk_un (by omega)]; exact ek⟩)
      · exact Or.inr (Or.inr z)
  · by_cases e1 : k = top + 1
    · subst e1
      refine ⟨q / 21, q % 21, hq1, hq2, ?_, Or.inl ⟨pk_us, rfl⟩⟩
      rw [pk_us]
      have e : 21 * (q / 21) + q % 21 = q := by omega
      rw [e]
    · by_cases e : k = top
      · subst e
        refine ⟨n, p, hn, hp, ?_, Or.inr ⟨s, q, ?_, hq, Or.inl ⟨by omega, pk_us⟩⟩⟩
        · rw [pk_un (by omega)]; exact hw
        · rw [pk_un (by omega), pk_us]
      · obtain ⟨n', p', hn', hp', ew, h⟩ := he k (by omega)
        refine ⟨n', p', hn', hp', by rw [pk_un e1]; exact ew, Or.inr ?_⟩
        rcases h with ⟨_, z⟩ | ⟨s', q', es, hq', z | z⟩
        · exact absurd z (by omega)
        · refine ⟨s', q', ?_, ?_, Or.inl ⟨by omega, ?_⟩⟩
          · rw [pk_un e1, pk_un e]; exact es
          · rw [ht k (by omega)]; exact hq'
          · rw [pk_un (by omega)]; exact z.2
        · exact absurd z.1 (by omega)
  · show 3 * pg_cnt (-3) (upd oc q (-4)) 840 + (px_sm (upd (upd sg top (nI s)) (top + 1) 0) top + (3 - (upd (upd sg top (nI s)) (top + 1) 0 top).toNatClampNeg) + (3 - (upd (upd sg top (nI s)) (top + 1) 0 (top + 1)).toNatClampNeg)) < 3 * pg_cnt (-3) oc 840 + (px_sm sg top + (3 - (sg top).toNatClampNeg))
    rw [px_sm_hi top (by omega), px_sm_hi top (Nat.le_refl _), pk_us, pk_un (by omega), pk_us, nI_clamp (by omega)]
    omega
  · by_cases e : j = q
    · rw [e, pk_us]; decide
    · rw [pk_un e]; exact hj
def px_stk (oc wt : Nat → Int32) : Nat → Nat → Int32
  | 0 => oc
  | k + 1 => upd (px_stk oc wt k) (wt k).toNatClampNeg (-2)
theorem px_stk_in {oc wt : Nat → Int32} {i : Nat} : ∀ k j, j < k → (wt j).toNatClampNeg = i → px_stk oc wt k i = -2 := by
  intro k
  induction k with
  | zero => intro j h; omega
  | succ k ih =>
    intro j h e
    show upd (px_stk oc wt k) (wt k).toNatClampNeg (-2) i = -2
    by_cases z : i = (wt k).toNatClampNeg
    · rw [z, pk_us]
    · rw [pk_un z]
      have hj : j ≠ k := fun y => z (by rw [← e, y])
      exact ih j (by omega) e
theorem px_stk_out {oc wt : Nat → Int32} {i : Nat} : ∀ k, (∀ j, j < k → (wt j).toNatClampNeg ≠ i) → px_stk oc wt k i = oc i := by
  intro k
  induction k with
  | zero => intro _; rfl
  | succ k ih =>
    intro h
    show upd (px_stk oc wt k) (wt k).toNatClampNeg (-2) i = oc i
    rw [pk_un (fun y => h k (by omega) y.symm)]
    exact ih (fun j hj => h j (by omega))
theorem px_stk_cnt {oc wt : Nat → Int32} : ∀ k, pg_cnt (-3) (px_stk oc wt k) 840 ≤ pg_cnt (-3) oc 840 := by
  intro k
  induction k with
  | zero => exact Nat.le_refl _
  | succ k ih => exact Nat.le_trans (pg_cnt_keep (by decide) 840) ih
theorem px_stk_3 {oc wt : Nat → Int32} {i : Nat} (h : oc i ≠ -3) : ∀ k, px_stk oc wt k i ≠ -3 := by
  intro k
  induction k with
  | zero => exact h
  | succ k ih =>
    show upd (px_stk oc wt k) (wt k).toNatClampNeg (-2) i ≠ -3
    by_cases z : i = (wt k).toNatClampNeg
    · rw [z, pk_us]; decide
    · rw [pk_un z]; exact ih
theorem px_stuck {D : PgD} {ln N top n p s q : Nat} {oc wt sg tk tk' wt' sg' : Nat → Int32} (W : pg_W D ln N) (I : px_I D ln N (top + 1) oc wt sg tk) (hn : n < N) (hp : p ≤ ln) (hw : wt top = nI (21 * n + p)) (hq : px_Q D ln N s n p (tk' top) q) (hk : oc q = -4 ∨ oc q = -2) : px_S D ln N (top + 1) oc sg 0 (px_stk oc wt (top + 1)) wt' sg' tk' := by
  obtain ⟨hc, hm, he⟩ := I
  obtain ⟨hq1, hq2, hq3⟩ := px_Q_in W hn hp hq
  have hN := W.1
  have hln := W.2.1
  have hkq : (∃ k, k < top + 1 ∧ wt k = nI q) ∨ pg_L D ln N q = -2 := by
    rcases hm q hq3 with z | ⟨_, z⟩ | ⟨_, _, z⟩
    · rcases hk with y | y
      · exact absurd (y.symm.trans z) (by decide)
      · exact absurd (y.symm.trans z) (by decide)
    · exact Or.inl z
    · rcases hk with y | y
      · exact absurd (z.symm.trans y) (px_v34 W hq1 hq2).2
      · exact Or.inr (z.symm.trans y)
  have bot : ∀ i, (i < 840 ∧ ∃ k, k < top + 1 ∧ wt k = nI i) → pg_L D ln N i = -2 := by
    refine pg_L_bot (C := fun i => i < 840 ∧ ∃ k, k < top + 1 ∧ wt k = nI i) W ?_
    intro w le hC i ⟨hi, k, hk, ek⟩ _ _
    obtain ⟨n', p', hn', hp', ew, h⟩ := he k hk
    have ei : i = 21 * n' + p' := by
      rw [ek] at ew
      exact (nI_eq (by omega) (by omega)).mp ew
    rw [ei, pg_q (by omega), pg_r (by omega)]
    by_cases e : k = top
    · subst e
      rw [hw] at ew
      have e2 : 21 * n + p = 21 * n' + p' := (nI_eq (by omega) (by omega)).mp ew
      have e3 : n = n' := by omega
      have e4 : p = p' := by omega
      subst e3 e4
      refine px_Q_strict W hn hp hq le ?_
      rcases hkq with z | z
      · exact hC q ⟨hq3, z⟩
      · rcases le q hq3 with y | y
        · exact y
        · exact y.trans z
    · rcases h with ⟨_, z⟩ | ⟨s', q', es, hq', z | z⟩
      · exact absurd z (by omega)
      · have hin := px_Q_in W hn' hp' hq'
        exact px_Q_strict W hn' hp' hq' le (hC q' ⟨hin.2.2, k + 1, z.1, z.2⟩)
      · exact absurd z.1 (by omega)
  have hct := px_stk_cnt (oc := oc) (wt := wt) (top + 1)
  have hsg := px_sg (he top (by omega))
  refine ⟨⟨by omega, fun i hi => ?_, fun k hk => absurd hk (Nat.not_lt_zero k)⟩, ?_, fun j hj => px_stk_3 hj _⟩
  · by_cases ex : ∃ k, k < top + 1 ∧ wt k = nI i
    · obtain ⟨k, hk, ek⟩ := ex
      right; right
      obtain ⟨n', p', hn', hp', ew, _⟩ := he k hk
      have ei : i = 21 * n' + p' := by
        rw [ek] at ew
        exact (nI_eq (by omega) (by omega)).mp ew
      refine ⟨by omega, by omega, ?_⟩
      rw [bot i ⟨hi, k, hk, ek⟩]
      exact px_stk_in _ k hk (by rw [ek, nI_clamp (by omega)])
    · have eo : px_stk oc wt (top + 1) i = oc i := by
        refine px_stk_out _ fun j hj z => ex ⟨j, hj, ?_⟩
        obtain ⟨n', p', hn', hp', ew, _⟩ := he j hj
        rw [ew, nI_clamp (by omega)] at z
        rw [ew, z]
      unfold px_M
      rw [eo]
      rcases hm i hi with z | ⟨_, z⟩ | z
      · exact Or.inl z
      · exact absurd z ex
      · exact Or.inr (Or.inr z)
  · show 3 * pg_cnt (-3) (px_stk oc wt (top + 1)) 840 + 0 < 3 * pg_cnt (-3) oc 840 + (px_sm sg top + (3 - (sg top).toNatClampNeg))
    omega
theorem px_Z_I {D : PgD} {ln N : Nat} {oc wt sg tk : Nat → Int32} (h : px_Z D ln N oc) : px_I D ln N 0 oc wt sg tk := by
  have := pg_cnt_le (-3) oc 840
  refine ⟨by omega, fun i hi => ?_, fun k hk => absurd hk (Nat.not_lt_zero k)⟩
  rcases h i hi with z | z
  · exact Or.inl z
  · exact Or.inr (Or.inr z)
theorem px_I_Z {D : PgD} {ln N : Nat} {oc wt sg tk : Nat → Int32} (h : px_I D ln N 0 oc wt sg tk) : px_Z D ln N oc := by
  intro i hi
  rcases h.2.1 i hi with z | ⟨_, k, hk, _⟩ | z
  · exact Or.inl z
  · exact absurd hk (Nat.not_lt_zero k)
  · exact Or.inr z
/-- the first one is put on -/
theorem px_start {D : PgD} {ln N n p : Nat} {oc wt sg tk : Nat → Int32} (W : pg_W D ln N) (h : px_Z D ln N oc) (hn : n < N) (hp : p ≤ ln) (hk : oc (21 * n + p) = -3) : px_I D ln N 1 (upd oc (21 * n + p) (-4)) (upd wt 0 (nI (21 * n + p))) (upd sg 0 0) tk ∧ px_mu (upd oc (21 * n + p) (-4)) (upd sg 0 0) 1 ≤ 2520 := by
  have hN := W.1
  have hl := W.2.1
  have hd := pg_cnt_dec (x := -4) hk (by decide) 840 (by omega)
  have hc := pg_cnt_le (-3) oc 840
  refine ⟨⟨by omega, fun j hj => ?_, fun k hkt => ?_⟩, ?_⟩
  · by_cases e : j = 21 * n + p
    · subst e
      exact Or.inr (Or.inl ⟨pk_us, 0, by omega, pk_us⟩)
    · unfold px_M
      rw [pk_un e]
      rcases h j hj with z | z
      · exact Or.inl z
      · exact Or.inr (Or.inr z)
  · have e : k = 0 := by omega
    subst e
    exact ⟨n, p, hn, hp, pk_us, Or.inl ⟨pk_us, rfl⟩⟩
  · show 3 * pg_cnt (-3) (upd oc (21 * n + p) (-4)) 840 + (0 + (3 - (upd sg 0 0 0).toNatClampNeg)) ≤ 2520
    omega
end
section
/-! X's grammar out of its arrays, and the walks of its machine -/
def pg_one (c a : Int32) (tx : Nat → Int32) (ln p : Nat) : Int32 := if c = 2 then 0 else if ln ≤ p then -1 else if c = 1 then 1 else if tx p = a then 1 else -1
def pg_base (op arg rn tx : Nat → Int32) (ln n p : Nat) : Option Int32 :=
  if op n = 10 then some (-2) else if op n ≤ 2 then some (pg_one (op n) (arg n) tx ln p) else if op n = 3 ∧ rn (arg n).toNatClampNeg < 0 then some (-1) else none
def px_D (op arg lf rt rn tx : Nat → Int32) (ln : Nat) : PgD :=
  (pg_base op arg rn tx ln, op, fun n => if op n = 3 then (rn (arg n).toNatClampNeg).toNatClampNeg else (lf n).toNatClampNeg, fun n => if op n = 6 then n else (rt n).toNatClampNeg)
/-- X's nodes are in order -/
def px_W (op arg lf rt rn : Nat → Int32) (N : Nat) : Prop :=
  (∀ n, n < N → (∃ j, j < 10 ∧ op n = nI j ∧ (4 ≤ j → ∃ m, m < N ∧ lf n = nI m) ∧ (j = 4 ∨ j = 5 → ∃ m, m < N ∧ rt n = nI m)) ∧ (∃ a, a < 4 ∧ arg n = nI a)) ∧ (∀ r, r < 4 → rn r = -1 ∨ ∃ m, m < N ∧ rn r = nI m)
theorem pg_one_R {c a : Int32} {tx : Nat → Int32} {ln p : Nat} (hp : p ≤ ln) : pg_R ln p (pg_one c a tx ln p) := by
  have z : pg_R ln p 0 := Or.inr (Or.inr ⟨0, by omega, nI_0.symm⟩)
  have m : pg_R ln p (-1) := Or.inr (Or.inl rfl)
  unfold pg_one
  by_cases h2 : c = 2
  · rw [if_pos h2]; exact z
  · rw [if_neg h2]
    by_cases hl : ln ≤ p
    · rw [if_pos hl]; exact m
    · rw [if_neg hl]
      have o : pg_R ln p 1 := Or.inr (Or.inr ⟨1, by omega, rfl⟩)
      split
      · exact o
      · split
        · exact o
        · exact m
theorem pg_one_2 {c a : Int32} {tx : Nat → Int32} {ln p : Nat} : pg_one c a tx ln p ≠ -2 := by
  unfold pg_one
  repeat' split
  all_goals decide
theorem px_pW {op arg lf rt rn tx : Nat → Int32} {ln N : Nat} (H : px_W op arg lf rt rn N) (hN : N ≤ 40) (hl : ln ≤ 20) : pg_W (px_D op arg lf rt rn tx ln) ln N := by
  refine ⟨hN, hl, fun n p hn hp hb => ?_, fun n p v hn hp hb => ?_⟩
  · obtain ⟨⟨j, hj, ej, h4, h5⟩, a, ha, ea⟩ := H.1 n hn
    change pg_base op arg rn tx ln n p = none at hb
    unfold pg_base at hb
    show (if op n = 3 then (rn (arg n).toNatClampNeg).toNatClampNeg else (lf n).toNatClampNeg) < N ∧ (op n = 4 ∨ op n = 5 ∨ op n = 6 → (if op n = 6 then n else (rt n).toNatClampNeg) < N)
    constructor
    · by_cases c3 : op n = 3
      · rw [if_pos c3]
        rw [ea, nI_clamp (by omega)] at hb ⊢
        rcases H.2 a ha with z | ⟨m, hm, em⟩
        · rw [z, c3, if_neg (by decide), if_neg (by decide), if_pos (by decide)] at hb
          exact absurd hb (by simp)
        · rw [em, nI_clamp (by omega)]; exact hm
      · rw [if_neg c3]
        have h4j : 4 ≤ j := by
          refine Classical.byContradiction fun z => ?_
          have hj3 : j ≠ 3 := fun e => c3 (by rw [ej, e]; rfl)
          have hle : op n ≤ 2 := by rw [ej]; exact nI_le (b := 2) (by omega) (by decide)
          have h10 : ¬ op n = 10 := fun e => by rw [e] at hle; exact absurd hle (by decide)
          rw [if_neg h10, if_pos hle] at hb
          exact absurd hb (by simp)
        obtain ⟨m, hm, em⟩ := h4 h4j
        rw [em, nI_clamp (by omega)]; exact hm
    · intro hc
      by_cases c6 : op n = 6
      · rw [if_pos c6]; exact hn
      · rw [if_neg c6]
        have h45 : j = 4 ∨ j = 5 := by
          rcases hc with e | e | e
          · left; rw [ej] at e; exact (nI_eq (b := 4) (by omega) (by decide)).mp e
          · right; rw [ej] at e; exact (nI_eq (b := 5) (by omega) (by decide)).mp e
          · exact absurd e c6
        obtain ⟨m, hm, em⟩ := h5 h45
        rw [em, nI_clamp (by omega)]; exact hm
  · change pg_base op arg rn tx ln n p = some v at hb
    unfold pg_base at hb
    split at hb
    · cases hb; exact Or.inl rfl
    · split at hb
      · cases hb; exact pg_one_R hp
      · split at hb
        · cases hb; exact Or.inr (Or.inl rfl)
        · cases hb
theorem px_ix (n p : Nat) : (21 : Int32) * nI n + nI p = nI (21 * n + p) := by
  rw [show (21 : Int32) = nI 21 from rfl, pk_mul, nI_add]
section
variable {fT fN fH : Int32} {ln N : Nat} {op arg lf rt st rn tx oc wt sg tk : Nat → Int32}
theorem px_putOn {post : SX → Prop} {n p dp : Nat} (hi : 21 * n + p < 840) (hd : dp < 840) (h : post (fT, fN, fH, nI ln, nI (dp + 1), op, arg, lf, rt, st, rn, tx, upd oc (21 * n + p) (-4), upd wt dp (nI (21 * n + p)), upd sg dp 0, tk)) : wpX_putOn post (fT, fN, fH, nI ln, nI dp, op, arg, lf, rt, st, rn, tx, oc, wt, sg, tk) (nI n) (nI p) := by
  unfold wpX_putOn
  dsimp only
  refine nm_r (e' := nI (21 * n + p)) (px_ix n p) ⟨vp_in_nI hi (by decide), ?_⟩
  rw [nI_clamp (n := 21 * n + p) (by omega), nI_clamp (n := dp) (by omega)]
  exact nm_e ⟨vp_in_nI hd (by decide), nm_e ⟨vp_in_nI hd (by decide), nm_e (nm_r (nI_1 dp) h)⟩⟩
theorem px_finishW {post : SX → Prop} {top i : Nat} {v fD : Int32} (ht : top < 840) (hw : wt top = nI i) (hi : i < 840) (h : post (fT, fN, fH, nI ln, nI top, op, arg, lf, rt, st, rn, tx, upd oc i v, wt, sg, tk)) : wpX_finish post (fT, fN, fH, nI ln, fD, op, arg, lf, rt, st, rn, tx, oc, wt, sg, tk) (nI top) v := by
  unfold wpX_finish
  dsimp only
  rw [nI_clamp (n := top) (by omega), hw, nI_clamp (n := i) (by omega)]
  exact ⟨vp_in_nI ht (by decide), vp_in_nI hi (by decide), nm_e h⟩
theorem px_needL {post : SX → Prop} {dp : Nat} (hd : dp ≤ 840) (hw : ∀ j, j < dp → ∃ i, i < 840 ∧ wt j = nI i) (h : post (fT, fN, fH, nI ln, 0, op, arg, lf, rt, st, rn, tx, px_stk oc wt dp, wt, sg, tk)) : ∀ d n k, k + d = dp → d < n → wX_need_54 post fT fN fH (nI ln) (nI dp) n (nI k) op arg lf rt st rn tx (px_stk oc wt k) wt sg tk := by
  intro d
  induction d with
  | zero =>
    intro n k hk hn
    obtain ⟨n, rfl⟩ : ∃ m, n = m + 1 := ⟨n - 1, by omega⟩
    have e : k = dp := by omega
    subst e
    exact br_t (nI_le (Nat.le_refl _) (by omega)) h
  | succ d ih =>
    intro n k hk hn
    obtain ⟨n, rfl⟩ : ∃ m, n = m + 1 := ⟨n - 1, by omega⟩
    obtain ⟨i, hi, ei⟩ := hw k (by omega)
    refine br_f (nI_ge (by omega) (by omega)) ⟨vp_in_nI (by omega) (by decide), ?_⟩
    rw [nI_clamp (n := k) (by omega)]
    refine ⟨by rw [ei]; exact vp_in_nI hi (by decide), nm_e (nm_r (nI_1 k) ?_)⟩
    exact ih n (k + 1) (by omega) (by omega)
/-- what need does, by what is known -/
theorem px_needW {post : SX → Prop} {top m p s : Nat} {sv : Int32} (ht : top < 840) (hi : 21 * m + p < 840) (hs : sv = nI s)
    (hw : ∀ j, j < top + 1 → ∃ i, i < 840 ∧ wt j = nI i)
    (h3 : oc (21 * m + p) = -3 → top + 1 < 840 ∧ post (fT, fN, fH, nI ln, nI (top + 2), op, arg, lf, rt, st, rn, tx, upd oc (21 * m + p) (-4), upd wt (top + 1) (nI (21 * m + p)), upd (upd sg top (nI s)) (top + 1) 0, tk))
    (h2 : (oc (21 * m + p) = -4 ∨ oc (21 * m + p) = -2) → post (fT, fN, fH, nI ln, 0, op, arg, lf, rt, st, rn, tx, px_stk oc wt (top + 1), wt, upd sg top (nI s), tk))
    (h1 : ¬ oc (21 * m + p) = -3 → ¬ oc (21 * m + p) = -4 → ¬ oc (21 * m + p) = -2 → post (fT, fN, fH, nI ln, nI (top + 1), op, arg, lf, rt, st, rn, tx, oc, wt, upd sg top (nI s), tk)) :
    wpX_need post (fT, fN, fH, nI ln, nI (top + 1), op, arg, lf, rt, st, rn, tx, oc, wt, sg, tk) (nI top) (nI m) (nI p) sv := by
  subst hs
  have L : (oc (21 * m + p) = -4 ∨ oc (21 * m + p) = -2) → ∃ n54 : Nat, wX_need_54 post fT fN fH (nI ln) (nI (top + 1)) n54 0 op arg lf rt st rn tx oc wt (upd sg top (nI s)) tk := fun z =>
    ⟨top + 2, px_needL (oc := oc) (by omega) hw (h2 z) (top + 1) (top + 2) 0 (by omega) (by omega)⟩
  unfold wpX_need
  dsimp only
  rw [px_ix, nI_clamp (n := top) (by omega), nI_clamp (n := 21 * m + p) (by omega)]
  refine ⟨vp_in_nI ht (by decide), nm_e ⟨vp_in_nI hi (by decide), nm_e ?_⟩⟩
  by_cases c3 : oc (21 * m + p) = -3
  · refine br_t c3 ?_
    obtain ⟨g1, g2⟩ := h3 c3
    exact px_putOn hi g1 g2
  · refine br_f c3 ?_
    by_cases c4 : oc (21 * m + p) = -4
    · exact br_t c4 (L (Or.inl c4))
    · refine br_f c4 ?_
      by_cases c2 : oc (21 * m + p) = -2
      · exact br_t c2 (L (Or.inr c2))
      · exact br_f c2 (h1 c3 c4 c2)
end
end
section
/-! X's machine: one step, the loop, match -/
theorem pg_fin_2 {c r : Int32} (h : r ≠ -2) : pg_fin c r ≠ -2 := by
  unfold pg_fin
  repeat' split
  all_goals first | exact h | decide
theorem px_codes {j : Nat} (h3 : 3 ≤ j) (h : j < 10) : nI j = 3 ∨ nI j = 4 ∨ nI j = 5 ∨ nI j = 6 ∨ nI j = 7 ∨ nI j = 8 ∨ nI j = 9 := by
  have hj : j = 3 ∨ j = 4 ∨ j = 5 ∨ j = 6 ∨ j = 7 ∨ j = 8 ∨ j = 9 := by omega
  rcases hj with e | e | e | e | e | e | e <;> subst e <;> decide
section
variable {fT fN fH : Int32} {ln N : Nat} {op arg lf rt st rn tx oc wt sg tk : Nat → Int32}
theorem px_b_lo {n p : Nat} (h : op n ≤ 2) : ((px_D op arg lf rt rn tx ln)).1 n p = some (pg_one (op n) (arg n) tx ln p) := by
  show pg_base op arg rn tx ln n p = _
  unfold pg_base
  have h10 : ¬ op n = 10 := fun e => by rw [e] at h; exact absurd h (by decide)
  rw [if_neg h10, if_pos h]
theorem px_b_und {n p : Nat} (h : op n = 3) (hr : rn (arg n).toNatClampNeg < 0) : ((px_D op arg lf rt rn tx ln)).1 n p = some (-1) := by
  show pg_base op arg rn tx ln n p = _
  unfold pg_base
  have h10 : ¬ op n = 10 := by rw [h]; decide
  have h2 : ¬ op n ≤ 2 := by rw [h]; decide
  rw [if_neg h10, if_neg h2, if_pos ⟨h, hr⟩]
theorem px_b_none {n p : Nat} (h10 : ¬ op n = 10) (h2 : ¬ op n ≤ 2) (hr : ¬ (op n = 3 ∧ rn (arg n).toNatClampNeg < 0)) : ((px_D op arg lf rt rn tx ln)).1 n p = none := by
  show pg_base op arg rn tx ln n p = _
  unfold pg_base
  rw [if_neg h10, if_neg h2, if_neg hr]
theorem px_fin {post : SX → Prop} {top n p : Nat} {v fD : Int32} (W : pg_W (px_D op arg lf rt rn tx ln) ln N) (I : px_I (px_D op arg lf rt rn tx ln) ln N (top + 1) oc wt sg tk) (hn : n < N) (hp : p ≤ ln) (hw : wt top = nI (21 * n + p)) (hv : v = pg_L (px_D op arg lf rt rn tx ln) ln N (21 * n + p)) (hne : v ≠ -2) (K : ∀ (dp' : Nat) (oc' wt' sg' tk' : Nat → Int32), px_S (px_D op arg lf rt rn tx ln) ln N (top + 1) oc sg dp' oc' wt' sg' tk' → post (fT, fN, fH, nI ln, nI dp', op, arg, lf, rt, st, rn, tx, oc', wt', sg', tk')) : wpX_finish post (fT, fN, fH, nI ln, fD, op, arg, lf, rt, st, rn, tx, oc, wt, sg, tk) (nI top) v := by
  have h1 := W.1
  have h2 := W.2.1
  have h3 := I.1
  exact px_finishW (by omega) hw (by omega) (K _ _ _ _ _ (px_finish W I (by omega) hw (by rw [pg_q (by omega)]; exact hn) (by rw [pg_r (by omega)]; exact hp) hv hne))
theorem px_need {post : SX → Prop} {top n p s m p' : Nat} {sv : Int32} {tk' : Nat → Int32} (W : pg_W (px_D op arg lf rt rn tx ln) ln N) (I : px_I (px_D op arg lf rt rn tx ln) ln N (top + 1) oc wt sg tk) (hn : n < N) (hp : p ≤ ln) (hw : wt top = nI (21 * n + p)) (hq : px_Q (px_D op arg lf rt rn tx ln) ln N s n p (tk' top) (21 * m + p')) (hs : (sg top).toNatClampNeg < s) (ht : ∀ k, k < top → tk' k = tk k) (hsv : sv = nI s) (K : ∀ (dp' : Nat) (oc' wt' sg' tk' : Nat → Int32), px_S (px_D op arg lf rt rn tx ln) ln N (top + 1) oc sg dp' oc' wt' sg' tk' → post (fT, fN, fH, nI ln, nI dp', op, arg, lf, rt, st, rn, tx, oc', wt', sg', tk')) : wpX_need post (fT, fN, fH, nI ln, nI (top + 1), op, arg, lf, rt, st, rn, tx, oc, wt, sg, tk') (nI top) (nI m) (nI p') sv := by
  have hin := px_Q_in W hn hp hq
  have hc := I.1
  have hN := W.1
  have hl := W.2.1
  refine px_needW (by omega) hin.2.2 hsv (fun j hj => ?_) (fun h3 => ⟨?_, K _ _ _ _ _ (px_push W I hn hp hw hq hs ht h3)⟩) (fun h2 => K 0 _ _ _ _ (px_stuck W I hn hp hw hq h2)) (fun a b c => K _ _ _ _ _ (px_known I hn hp hw hq hs ht ?_ ?_))
  · obtain ⟨n', p', hn', hp', ew, _⟩ := I.2.2 j hj
    exact ⟨21 * n' + p', by omega, ew⟩
  · have hd := pg_cnt_dec (x := -4) h3 (by decide) 840 hin.2.2
    omega
  · rcases I.2.1 _ hin.2.2 with z | ⟨z, _⟩ | z
    · exact absurd z a
    · exact absurd z b
    · exact z.2.2
  · intro z
    rcases I.2.1 _ hin.2.2 with y | ⟨y, _⟩ | y
    · exact absurd y a
    · exact absurd y b
    · exact c (y.2.2.trans z)
theorem px_need2 {post : SX → Prop} {top n p m a m' : Nat} (W : pg_W (px_D op arg lf rt rn tx ln) ln N) (I : px_I (px_D op arg lf rt rn tx ln) ln N (top + 1) oc wt sg tk) (hn : n < N) (hp : p ≤ ln) (hw : wt top = nI (21 * n + p)) (hb : ((px_D op arg lf rt rn tx ln)).1 n p = none) (hs : sg top = nI 1) (hm : ((px_D op arg lf rt rn tx ln)).2.2.1 n = m) (hne : pg_L (px_D op arg lf rt rn tx ln) ln N (21 * m + p) ≠ -2) (hsec : pg_sec (op n) (pg_L (px_D op arg lf rt rn tx ln) ln N (21 * m + p))) (ha : p + a ≤ ln) (ea : pg_tk (op n) (pg_L (px_D op arg lf rt rn tx ln) ln N (21 * m + p)) = nI a) (hm' : ((px_D op arg lf rt rn tx ln)).2.2.2 n = m') (K : ∀ (dp' : Nat) (oc' wt' sg' tk' : Nat → Int32), px_S (px_D op arg lf rt rn tx ln) ln N (top + 1) oc sg dp' oc' wt' sg' tk' → post (fT, fN, fH, nI ln, nI dp', op, arg, lf, rt, st, rn, tx, oc', wt', sg', tk')) : wpX_need post (fT, fN, fH, nI ln, nI (top + 1), op, arg, lf, rt, st, rn, tx, oc, wt, sg, upd tk top (nI a)) (nI top) (nI m') (nI (p + a)) 2 := by
  have hl := W.2.1
  refine px_need (s := 2) W I hn hp hw ⟨hb, Or.inr ⟨rfl, ?_, ?_, ?_, ?_⟩⟩ ?_ (fun k hk => pk_un (by omega)) rfl K
  · rw [hm]; exact hne
  · rw [hm]; exact hsec
  · rw [pk_us, hm]; exact ea.symm
  · rw [pk_us, hm', nI_clamp (by omega), Nat.add_assoc]
  · rw [hs, nI_clamp (by decide)]; decide
theorem px_af {post : SX → Prop} {top n p m : Nat} (H : px_W op arg lf rt rn N) (W : pg_W (px_D op arg lf rt rn tx ln) ln N) (I : px_I (px_D op arg lf rt rn tx ln) ln N (top + 1) oc wt sg tk) (hn : n < N) (hp : p ≤ ln) (hw : wt top = nI (21 * n + p)) (hb : ((px_D op arg lf rt rn tx ln)).1 n p = none) (hs : sg top = nI 1) (hm : ((px_D op arg lf rt rn tx ln)).2.2.1 n = m) (hmN : m < N) (h3 : ¬ op n ≤ 2) (hk : oc (21 * m + p) = pg_L (px_D op arg lf rt rn tx ln) ln N (21 * m + p)) (hne : pg_L (px_D op arg lf rt rn tx ln) ln N (21 * m + p) ≠ -2) (K : ∀ (dp' : Nat) (oc' wt' sg' tk' : Nat → Int32), px_S (px_D op arg lf rt rn tx ln) ln N (top + 1) oc sg dp' oc' wt' sg' tk' → post (fT, fN, fH, nI ln, nI dp', op, arg, lf, rt, st, rn, tx, oc', wt', sg', tk')) : wX_afterFirst_26 post (nI top) (nI n) (nI p) (op n) (nI m) fT fN fH (nI ln) (nI (top + 1)) op arg lf rt st rn tx oc wt sg tk := by
  have hN := W.1
  have hl := W.2.1
  have hc := I.1
  obtain ⟨⟨j, hj, ej, h4, h5⟩, _⟩ := H.1 n hn
  have hr := pg_L_ok W m p (by omega) hp
  have hfix : pg_L (px_D op arg lf rt rn tx ln) ln N (21 * n + p) = pg_G1 (op n) (21 * ((px_D op arg lf rt rn tx ln)).2.2.2 n + p) (pg_L (px_D op arg lf rt rn tx ln) ln N) (pg_L (px_D op arg lf rt rn tx ln) ln N (21 * m + p)) := by
    rw [pg_L_fix W hn hp, pg_F_none hb, hm]
    rfl
  have hfin : ¬ pg_sec (op n) (pg_L (px_D op arg lf rt rn tx ln) ln N (21 * m + p)) → pg_fin (op n) (pg_L (px_D op arg lf rt rn tx ln) ln N (21 * m + p)) = pg_L (px_D op arg lf rt rn tx ln) ln N (21 * n + p) := by
    intro z
    rw [hfix]
    unfold pg_G1
    rw [if_neg hne, if_neg z]
  have hneed : ∀ (a m' : Nat) (post' : SX → Prop), pg_sec (op n) (pg_L (px_D op arg lf rt rn tx ln) ln N (21 * m + p)) → p + a ≤ ln → pg_tk (op n) (pg_L (px_D op arg lf rt rn tx ln) ln N (21 * m + p)) = nI a → ((px_D op arg lf rt rn tx ln)).2.2.2 n = m' → (∀ (dp' : Nat) (oc' wt' sg' tk' : Nat → Int32), px_S (px_D op arg lf rt rn tx ln) ln N (top + 1) oc sg dp' oc' wt' sg' tk' → post' (fT, fN, fH, nI ln, nI dp', op, arg, lf, rt, st, rn, tx, oc', wt', sg', tk')) → wpX_need post' (fT, fN, fH, nI ln, nI (top + 1), op, arg, lf, rt, st, rn, tx, oc, wt, sg, upd tk top (nI a)) (nI top) (nI m') (nI (p + a)) 2 :=
    fun a m' post' g1 g2 g3 g4 K' => px_need2 W I hn hp hw hb hs hm hne g1 g2 g3 g4 K'
  have hdone : ∀ (v : Int32) (post' : SX → Prop), v = pg_fin (op n) (pg_L (px_D op arg lf rt rn tx ln) ln N (21 * m + p)) → ¬ pg_sec (op n) (pg_L (px_D op arg lf rt rn tx ln) ln N (21 * m + p)) → (∀ (dp' : Nat) (oc' wt' sg' tk' : Nat → Int32), px_S (px_D op arg lf rt rn tx ln) ln N (top + 1) oc sg dp' oc' wt' sg' tk' → post' (fT, fN, fH, nI ln, nI dp', op, arg, lf, rt, st, rn, tx, oc', wt', sg', tk')) → wpX_finish post' (fT, fN, fH, nI ln, nI (top + 1), op, arg, lf, rt, st, rn, tx, oc, wt, sg, tk) (nI top) v :=
    fun v post' g1 g2 K' => px_fin W I hn hp hw (g1.trans (hfin g2)) (by rw [g1]; exact pg_fin_2 hne) K'
  have hrt : op n = 4 ∨ op n = 5 → ∃ m', m' < N ∧ rt n = nI m' ∧ ((px_D op arg lf rt rn tx ln)).2.2.2 n = m' := by
    intro z
    have h45 : j = 4 ∨ j = 5 := by
      rcases z with e | e
      · left; rw [ej] at e; exact (nI_eq (b := 4) (by omega) (by decide)).mp e
      · right; rw [ej] at e; exact (nI_eq (b := 5) (by omega) (by decide)).mp e
    obtain ⟨m', hm', em'⟩ := h5 h45
    refine ⟨m', hm', em', ?_⟩
    show (if op n = 6 then n else (rt n).toNatClampNeg) = m'
    have h6 : ¬ op n = 6 := by rcases z with e | e <;> rw [e] <;> decide
    rw [if_neg h6, em', nI_clamp (by omega)]
  have htop : vp_in (nI top) 840 := vp_in_nI (by omega) (by decide)
  have hnn : vp_in (nI n) 40 := vp_in_nI (by omega) (by decide)
  have h3j : 3 ≤ j := by
    refine Classical.byContradiction fun z => h3 ?_
    rw [ej]
    exact nI_le (b := 2) (by omega) (by decide)
  unfold wX_afterFirst_26
  rw [px_ix, nI_clamp (n := 21 * m + p) (by omega)]
  refine ⟨vp_in_nI (by omega) (by decide), nm_r hk ?_⟩
  generalize pg_L (px_D op arg lf rt rn tx ln) ln N (21 * m + p) = r at hr hfix hfin hneed hdone hne
  have hcase := px_codes h3j hj
  rw [← ej] at hcase
  clear hfix hfin hk
  rcases hcase with e | e | e | e | e | e | e
  · refine br_t e (hdone _ _ ?_ ?_ K)
    · rw [e]; rfl
    · rw [e]; unfold pg_sec; simp
  · refine br_f (by rw [e]; decide) (br_t e ?_)
    by_cases z : r < 0
    · have ns : ¬ pg_sec (op n) r := by
        rw [e]; rintro (y | y | y)
        · exact absurd z (Int32.not_lt.mpr y.2)
        · exact absurd y.1 (by decide)
        · exact absurd y.1 (by decide)
      rw [e] at ns hdone ⊢
      exact br_t z (br_f (by decide) (br_f (by decide) (br_f (by decide) (br_f (by decide) (br_f (by decide) (br_f (by decide) (hdone _ _ rfl ns K)))))))
    · have s : pg_sec (op n) r := Or.inl ⟨e, Int32.not_lt.mp z⟩
      obtain ⟨a, ha, ea⟩ := pg_tkN hp hr s
      obtain ⟨m', hm', em', eD⟩ := hrt (Or.inl e)
      have er : r = nI a := by rw [← ea]; unfold pg_tk; rw [if_neg (by rw [e]; decide)]
      refine br_f z ⟨htop, ?_⟩
      rw [nI_clamp (n := top) (by omega), nI_clamp (n := n) (by omega), em', er, nI_add]
      rw [er] at hneed s
      rw [er] at ea
      exact nm_e ⟨hnn, hneed a m' _ s ha ea eD K⟩
  · refine br_f (by rw [e]; decide) (br_f (by rw [e]; decide) (br_t e ?_))
    by_cases z : 0 ≤ r
    · have ns : ¬ pg_sec (op n) r := by
        rw [e]; rintro (y | y | y)
        · exact absurd y.1 (by decide)
        · exact absurd y.2 (Int32.not_lt.mpr z)
        · exact absurd y.1 (by decide)
      rw [e] at ns hdone ⊢
      exact br_t z (br_f (by decide) (br_f (by decide) (br_f (by decide) (br_f (by decide) (br_f (by decide) (hdone _ _ rfl ns K))))))
    · have s : pg_sec (op n) r := Or.inr (Or.inl ⟨e, Int32.not_le.mp z⟩)
      obtain ⟨m', hm', em', eD⟩ := hrt (Or.inr e)
      have ea : pg_tk (op n) r = nI 0 := by unfold pg_tk; rw [if_pos e]; rfl
      refine br_f z ⟨htop, ?_⟩
      rw [nI_clamp (n := top) (by omega), nI_clamp (n := n) (by omega), em']
      exact nm_e ⟨hnn, hneed 0 m' _ s hp ea eD K⟩
  · refine br_f (by rw [e]; decide) (br_f (by rw [e]; decide) (br_f (by rw [e]; decide) (br_t e ?_)))
    by_cases z : r ≤ 0
    · have ns : ¬ pg_sec (op n) r := by
        rw [e]; rintro (y | y | y)
        · exact absurd y.1 (by decide)
        · exact absurd y.1 (by decide)
        · exact absurd y.2 (Int32.not_lt.mpr z)
      rw [e] at ns hdone ⊢
      refine br_t z (br_t rfl ?_)
      by_cases z0 : 0 ≤ r
      · exact br_t z0 (hdone _ _ (by unfold pg_fin; rw [if_pos (by decide), if_pos z0]) ns K)
      · exact br_f z0 (hdone _ _ (by unfold pg_fin; rw [if_pos (by decide), if_neg z0]) ns K)
    · have s : pg_sec (op n) r := Or.inr (Or.inr ⟨e, Int32.not_le.mp z⟩)
      obtain ⟨a, ha, ea⟩ := pg_tkN hp hr s
      have er : r = nI a := by rw [← ea]; unfold pg_tk; rw [if_neg (by rw [e]; decide)]
      have eD : ((px_D op arg lf rt rn tx ln)).2.2.2 n = n := if_pos e
      refine br_f z ⟨htop, ?_⟩
      rw [nI_clamp (n := top) (by omega), er, nI_add]
      rw [er] at hneed s
      rw [er] at ea
      exact nm_e (hneed a n _ s ha ea eD K)
  · have ns : ¬ pg_sec (op n) r := by
      rw [e]; rintro (y | y | y)
      · exact absurd y.1 (by decide)
      · exact absurd y.1 (by decide)
      · exact absurd y.1 (by decide)
    rw [e] at ns hdone ⊢
    refine br_f (by decide) (br_f (by decide) (br_f (by decide) (br_f (by decide) (br_f (by decide) (br_t rfl ?_)))))
    by_cases z0 : 0 ≤ r
    · exact br_t z0 (hdone _ _ (by unfold pg_fin; rw [if_pos (by decide), if_pos z0]) ns K)
    · exact br_f z0 (hdone _ _ (by unfold pg_fin; rw [if_pos (by decide), if_neg z0]) ns K)
  · have ns : ¬ pg_sec (op n) r := by
      rw [e]; rintro (y | y | y)
      · exact absurd y.1 (by decide)
      · exact absurd y.1 (by decide)
      · exact absurd y.1 (by decide)
    rw [e] at ns hdone ⊢
    refine br_f (by decide) (br_f (by decide) (br_f (by decide) (br_f (by decide) (br_f (by decide) (br_f (by decide) (br_t rfl ?_))))))
    by_cases z0 : 0 ≤ r
    · exact br_t z0 (hdone _ _ (by unfold pg_fin; rw [if_neg (by decide), if_pos rfl, if_pos z0]) ns K)
    · exact br_f z0 (hdone _ _ (by unfold pg_fin; rw [if_neg (by decide), if_pos rfl, if_neg z0]) ns K)
  · have ns : ¬ pg_sec (op n) r := by
      rw [e]; rintro (y | y | y)
      · exact absurd y.1 (by decide)
      · exact absurd y.1 (by decide)
      · exact absurd y.1 (by decide)
    rw [e] at ns hdone ⊢
    refine br_f (by decide) (br_f (by decide) (br_f (by decide) (br_f (by decide) (br_f (by decide) (br_f (by decide) (br_f (by decide) (br_t rfl ?_)))))))
    by_cases z0 : 0 ≤ r
    · exact br_t z0 (hdone _ _ (by unfold pg_fin; rw [if_neg (by decide), if_neg (by decide), if_pos rfl, if_pos z0]) ns K)
    · exact br_f z0 (hdone _ _ (by unfold pg_fin; rw [if_neg (by decide), if_neg (by decide), if_pos rfl, if_neg z0]) ns K)
theorem px_as {post : SX → Prop} {top n p m a : Nat} (W : pg_W (px_D op arg lf rt rn tx ln) ln N) (I : px_I (px_D op arg lf rt rn tx ln) ln N (top + 1) oc wt sg tk) (hn : n < N) (hp : p ≤ ln) (hw : wt top = nI (21 * n + p)) (hm : m < 40) (ha : p + a ≤ ln) (ea : tk top = nI a) (hL : pg_L (px_D op arg lf rt rn tx ln) ln N (21 * n + p) = pg_G2 (nI a) (pg_L (px_D op arg lf rt rn tx ln) ln N (21 * m + (p + a)))) (hk : oc (21 * m + (p + a)) = pg_L (px_D op arg lf rt rn tx ln) ln N (21 * m + (p + a))) (hne : pg_L (px_D op arg lf rt rn tx ln) ln N (21 * m + (p + a)) ≠ -2) (K : ∀ (dp' : Nat) (oc' wt' sg' tk' : Nat → Int32), px_S (px_D op arg lf rt rn tx ln) ln N (top + 1) oc sg dp' oc' wt' sg' tk' → post (fT, fN, fH, nI ln, nI dp', op, arg, lf, rt, st, rn, tx, oc', wt', sg', tk')) : wX_afterSecond_17 post (nI top) (nI p) (nI m) fT fN fH (nI ln) (nI (top + 1)) op arg lf rt st rn tx oc wt sg tk := by
  have hl := W.2.1
  have hc := I.1
  have htop : vp_in (nI top) 840 := vp_in_nI (by omega) (by decide)
  have hr := pg_L_ok W m (p + a) hm ha
  unfold wX_afterSecond_17
  rw [nI_clamp (n := top) (by omega), ea, px_ix, nI_add, Nat.add_assoc, nI_clamp (n := 21 * m + (p + a)) (by omega)]
  refine ⟨htop, vp_in_nI (by omega) (by decide), nm_r hk ?_⟩
  generalize pg_L (px_D op arg lf rt rn tx ln) ln N (21 * m + (p + a)) = r at hL hne hr
  unfold pg_G2 at hL
  rw [if_neg hne] at hL
  by_cases z : 0 ≤ r
  · rw [if_pos z] at hL
    refine br_t z ⟨htop, px_fin W I hn hp hw hL.symm ?_ K⟩
    rcases hr with e | e | ⟨b, hb, e⟩
    · exact absurd e hne
    · rw [e] at z; exact absurd z (by decide)
    · rw [e, nI_add]; exact pg_ne (by omega) (by decide)
  · rw [if_neg z] at hL
    exact br_f z (px_fin W I hn hp hw hL.symm (by decide) K)
theorem px_single {post : Int32 → Prop} {dp c a : Int32} {p : Nat} (hl : ln ≤ 20) (hp : p ≤ ln) (h : post (pg_one c a tx ln p)) : wpX_single post (fT, fN, fH, nI ln, dp, op, arg, lf, rt, st, rn, tx, oc, wt, sg, tk) c a (nI p) := by
  unfold wpX_single
  dsimp only
  unfold pg_one at h
  by_cases c2 : c = 2
  · rw [if_pos c2] at h; exact br_t c2 h
  · rw [if_neg c2] at h
    refine br_f c2 ?_
    by_cases hlp : ln ≤ p
    · rw [if_pos hlp] at h; exact br_t (nI_le hlp (by omega)) h
    · rw [if_neg hlp] at h
      refine br_f (nI_ge (by omega) (by omega)) ?_
      by_cases c1 : c = 1
      · rw [if_pos c1] at h; exact br_t c1 h
      · rw [if_neg c1] at h
        refine br_f c1 ⟨vp_in_nI (by omega) (by decide), ?_⟩
        rw [nI_clamp (n := p) (by omega)]
        by_cases z : tx p = a
        · rw [if_pos z] at h; exact br_t z h
        · rw [if_neg z] at h; exact br_f z h
end
end
section
/-! X's machine: a step, the loop, match -/
section
variable {fT fN fH : Int32} {ln N : Nat} {op arg lf rt st rn tx oc wt sg tk : Nat → Int32}
theorem px_begin {post : SX → Prop} {top n p : Nat} (H : px_W op arg lf rt rn N) (W : pg_W (px_D op arg lf rt rn tx ln) ln N) (I : px_I (px_D op arg lf rt rn tx ln) ln N (top + 1) oc wt sg tk) (hn : n < N) (hp : p ≤ ln) (hw : wt top = nI (21 * n + p)) (hs : sg top = 0) (h3 : ¬ op n ≤ 2) (K : ∀ (dp' : Nat) (oc' wt' sg' tk' : Nat → Int32), px_S (px_D op arg lf rt rn tx ln) ln N (top + 1) oc sg dp' oc' wt' sg' tk' → post (fT, fN, fH, nI ln, nI dp', op, arg, lf, rt, st, rn, tx, oc', wt', sg', tk')) : wpX_begin post (fT, fN, fH, nI ln, nI (top + 1), op, arg, lf, rt, st, rn, tx, oc, wt, sg, tk) (nI top) (nI n) (nI p) (op n) := by
  have hN := W.1
  have hl := W.2.1
  obtain ⟨⟨j, hj, ej, h4, h5⟩, a, ha, ea⟩ := H.1 n hn
  have h10 : ¬ op n = 10 := by
    rw [ej]
    exact fun e => absurd ((nI_eq (b := 10) (by omega) (by decide)).mp e) (by omega)
  have hnn : vp_in (nI n) 40 := vp_in_nI (by omega) (by decide)
  have go : ∀ m, m < N → ((px_D op arg lf rt rn tx ln)).1 n p = none → ((px_D op arg lf rt rn tx ln)).2.2.1 n = m → wX_begin_26 post (nI top) (nI p) (nI m) fT fN fH (nI ln) (nI (top + 1)) op arg lf rt st rn tx oc wt sg tk := by
    intro m hm hb em
    refine br_t (nI_pos' (by omega)) ?_
    refine px_need (s := 1) W I hn hp hw ⟨hb, Or.inl ⟨rfl, by rw [em]⟩⟩ (by rw [hs]; decide) (fun _ _ => rfl) rfl K
  unfold wpX_begin
  dsimp only
  rw [nI_clamp (n := n) (by omega), ea, nI_clamp (n := a) (by omega)]
  by_cases c3 : op n = 3
  · refine br_t c3 ⟨hnn, vp_in_nI ha (by decide), ?_⟩
    rcases H.2 a ha with z | ⟨m, hm, em⟩
    · rw [z]
      have hb : ((px_D op arg lf rt rn tx ln)).1 n p = some (-1) := px_b_und c3 (by rw [ea, nI_clamp (by omega), z]; decide)
      exact br_f (by decide) (px_fin W I hn hp hw (by rw [pg_L_fix W hn hp, pg_F_some hb]) (by decide) K)
    · rw [em]
      refine go m hm (px_b_none h10 h3 ?_) ?_
      · rw [ea, nI_clamp (by omega), em]
        exact fun z => nI_pos (by omega) z.2
      · show (if op n = 3 then (rn (arg n).toNatClampNeg).toNatClampNeg else (lf n).toNatClampNeg) = m
        rw [if_pos c3, ea, nI_clamp (n := a) (by omega), em, nI_clamp (by omega)]
  · have h4j : 4 ≤ j := by
      refine Classical.byContradiction fun z => ?_
      have hj3 : j ≠ 3 := fun e => c3 (by rw [ej, e]; rfl)
      exact h3 (by rw [ej]; exact nI_le (b := 2) (by omega) (by decide))
    obtain ⟨m, hm, em⟩ := h4 h4j
    refine br_f c3 ⟨hnn, ?_⟩
    rw [em]
    refine go m hm (px_b_none h10 h3 (fun z => c3 z.1)) ?_
    show (if op n = 3 then (rn (arg n).toNatClampNeg).toNatClampNeg else (lf n).toNatClampNeg) = m
    rw [if_neg c3, em, nI_clamp (by omega)]
theorem px_after1 {post : SX → Prop} {top n p : Nat} (H : px_W op arg lf rt rn N) (W : pg_W (px_D op arg lf rt rn tx ln) ln N) (I : px_I (px_D op arg lf rt rn tx ln) ln N (top + 1) oc wt sg tk) (hn : n < N) (hp : p ≤ ln) (hw : wt top = nI (21 * n + p)) (hs : sg top = nI 1) (h3 : ¬ op n ≤ 2) (hb : ((px_D op arg lf rt rn tx ln)).1 n p = none) (hk : oc (21 * ((px_D op arg lf rt rn tx ln)).2.2.1 n + p) = pg_L (px_D op arg lf rt rn tx ln) ln N (21 * ((px_D op arg lf rt rn tx ln)).2.2.1 n + p)) (hne : pg_L (px_D op arg lf rt rn tx ln) ln N (21 * ((px_D op arg lf rt rn tx ln)).2.2.1 n + p) ≠ -2) (K : ∀ (dp' : Nat) (oc' wt' sg' tk' : Nat → Int32), px_S (px_D op arg lf rt rn tx ln) ln N (top + 1) oc sg dp' oc' wt' sg' tk' → post (fT, fN, fH, nI ln, nI dp', op, arg, lf, rt, st, rn, tx, oc', wt', sg', tk')) : wpX_afterFirst post (fT, fN, fH, nI ln, nI (top + 1), op, arg, lf, rt, st, rn, tx, oc, wt, sg, tk) (nI top) (nI n) (nI p) (op n) := by
  have hN := W.1
  have hl := W.2.1
  obtain ⟨⟨j, hj, ej, h4, h5⟩, a, ha, ea⟩ := H.1 n hn
  have hnn : vp_in (nI n) 40 := vp_in_nI (by omega) (by decide)
  have go : ∀ m, m < N → ((px_D op arg lf rt rn tx ln)).2.2.1 n = m → wX_afterFirst_26 post (nI top) (nI n) (nI p) (op n) (nI m) fT fN fH (nI ln) (nI (top + 1)) op arg lf rt st rn tx oc wt sg tk := by
    intro m hm em
    rw [em] at hk hne
    exact px_af H W I hn hp hw hb hs em hm h3 hk hne K
  unfold wpX_afterFirst
  dsimp only
  rw [nI_clamp (n := n) (by omega), ea, nI_clamp (n := a) (by omega)]
  by_cases c3 : op n = 3
  · refine br_t c3 ⟨hnn, vp_in_nI ha (by decide), ?_⟩
    rcases H.2 a ha with z | ⟨m, hm, em⟩
    · have hb' : ((px_D op arg lf rt rn tx ln)).1 n p = some (-1) := px_b_und c3 (by rw [ea, nI_clamp (by omega), z]; decide)
      rw [hb] at hb'
      exact absurd hb' (by simp)
    · rw [em]
      refine go m hm ?_
      show (if op n = 3 then (rn (arg n).toNatClampNeg).toNatClampNeg else (lf n).toNatClampNeg) = m
      rw [if_pos c3, ea, nI_clamp (n := a) (by omega), em, nI_clamp (by omega)]
  · have h4j : 4 ≤ j := by
      refine Classical.byContradiction fun z => ?_
      have hj3 : j ≠ 3 := fun e => c3 (by rw [ej, e]; rfl)
      exact h3 (by rw [ej]; exact nI_le (b := 2) (by omega) (by decide))
    obtain ⟨m, hm, em⟩ := h4 h4j
    refine br_f c3 ⟨hnn, ?_⟩
    rw [em]
    refine go m hm ?_
    show (if op n = 3 then (rn (arg n).toNatClampNeg).toNatClampNeg else (lf n).toNatClampNeg) = m
    rw [if_neg c3, em, nI_clamp (by omega)]
theorem px_after2 {post : SX → Prop} {top n p q : Nat} (H : px_W op arg lf rt rn N) (W : pg_W (px_D op arg lf rt rn tx ln) ln N) (I : px_I (px_D op arg lf rt rn tx ln) ln N (top + 1) oc wt sg tk) (hn : n < N) (hp : p ≤ ln) (hw : wt top = nI (21 * n + p)) (hq : px_Q (px_D op arg lf rt rn tx ln) ln N 2 n p (tk top) q) (hk : oc q = pg_L (px_D op arg lf rt rn tx ln) ln N q) (hne : pg_L (px_D op arg lf rt rn tx ln) ln N q ≠ -2) (K : ∀ (dp' : Nat) (oc' wt' sg' tk' : Nat → Int32), px_S (px_D op arg lf rt rn tx ln) ln N (top + 1) oc sg dp' oc' wt' sg' tk' → post (fT, fN, fH, nI ln, nI dp', op, arg, lf, rt, st, rn, tx, oc', wt', sg', tk')) : wpX_afterSecond post (fT, fN, fH, nI ln, nI (top + 1), op, arg, lf, rt, st, rn, tx, oc, wt, sg, tk) (nI top) (nI n) (nI p) (op n) := by
  have hN := W.1
  have hl := W.2.1
  obtain ⟨⟨j, hj, ej, h4, h5⟩, a', ha', ea'⟩ := H.1 n hn
  have hnn : vp_in (nI n) 40 := vp_in_nI (by omega) (by decide)
  obtain ⟨hb, ⟨z, _⟩ | ⟨_, hne1, hs, ha, eq⟩⟩ := hq
  · exact absurd z (by decide)
  obtain ⟨h1, h2⟩ := W.2.2.1 n p hn hp hb
  have h2 := h2 (pg_secC hs)
  obtain ⟨a, hpa, ea⟩ := pg_tkN hp (pg_L_ok W _ p (by omega) hp) hs
  have eta : tk top = nI a := ha.trans ea
  rw [eta, nI_clamp (by omega), Nat.add_assoc] at eq
  have hL : pg_L (px_D op arg lf rt rn tx ln) ln N (21 * n + p) = pg_G2 (nI a) (pg_L (px_D op arg lf rt rn tx ln) ln N q) := by
    rw [pg_L_fix W hn hp, pg_F_none hb]
    unfold pg_G1
    rw [if_neg hne1, if_pos hs, ea, nI_clamp (by omega), Nat.add_assoc, ← eq]
  have go : ∀ m, ((px_D op arg lf rt rn tx ln)).2.2.2 n = m → wX_afterSecond_17 post (nI top) (nI p) (nI m) fT fN fH (nI ln) (nI (top + 1)) op arg lf rt st rn tx oc wt sg tk := by
    intro m em
    rw [em] at eq h2
    rw [eq] at hL hk hne
    exact px_as W I hn hp hw (by omega) hpa eta hL hk hne K
  unfold wpX_afterSecond
  dsimp only
  rw [nI_clamp (n := n) (by omega)]
  by_cases c6 : op n = 6
  · exact br_t c6 (go n (if_pos c6))
  · have h45 : j = 4 ∨ j = 5 := by
      rcases pg_secC hs with e | e | e
      · left; change op n = 4 at e; rw [ej] at e; exact (nI_eq (b := 4) (by omega) (by decide)).mp e
      · right; change op n = 5 at e; rw [ej] at e; exact (nI_eq (b := 5) (by omega) (by decide)).mp e
      · exact absurd e c6
    obtain ⟨m, hm, em⟩ := h5 h45
    refine br_f c6 ⟨hnn, ?_⟩
    rw [em]
    refine go m ?_
    show (if op n = 6 then n else (rt n).toNatClampNeg) = m
    rw [if_neg c6, em, nI_clamp (by omega)]
theorem px_goOn {post : SX → Prop} {top : Nat} (H : px_W op arg lf rt rn N) (hN : N ≤ 40) (hl : ln ≤ 20) (I : px_I (px_D op arg lf rt rn tx ln) ln N (top + 1) oc wt sg tk) (K : ∀ (dp' : Nat) (oc' wt' sg' tk' : Nat → Int32), px_S (px_D op arg lf rt rn tx ln) ln N (top + 1) oc sg dp' oc' wt' sg' tk' → post (fT, fN, fH, nI ln, nI dp', op, arg, lf, rt, st, rn, tx, oc', wt', sg', tk')) : wpX_goOn post (fT, fN, fH, nI ln, nI (top + 1), op, arg, lf, rt, st, rn, tx, oc, wt, sg, tk) (nI top) := by
  have W : pg_W (px_D op arg lf rt rn tx ln) ln N := px_pW H hN hl
  obtain ⟨n, p, hn, hp, hw, hst⟩ := I.2.2 top (by omega)
  have hc := I.1
  have htop : vp_in (nI top) 840 := vp_in_nI (by omega) (by decide)
  have hnn : vp_in (nI n) 40 := vp_in_nI (by omega) (by decide)
  unfold wpX_goOn
  dsimp only
  rw [nI_clamp (n := top) (by omega), hw]
  refine ⟨htop, by decide, nm_r (e' := nI n) ?_ ⟨htop, by decide, nm_r (e' := nI p) ?_ ⟨hnn, ?_⟩⟩⟩
  · rw [show (21 : Int32) = nI 21 from rfl, pk_div (by omega) (by omega) (by decide), pg_q (by omega)]
  · rw [show (21 : Int32) = nI 21 from rfl, pk_rem (by omega) (by omega) (by decide), pg_r (by omega)]
  rw [nI_clamp (n := n) (by omega)]
  refine nm_e ?_
  by_cases h3 : op n ≤ 2
  · refine br_f (Int32.not_lt.mpr h3) ⟨hnn, px_single hl hp ?_⟩
    exact px_fin W I hn hp hw (by rw [pg_L_fix W hn hp, pg_F_some (px_b_lo h3)]) pg_one_2 K
  · refine br_t (Int32.not_le.mp h3) ⟨htop, ?_⟩
    rcases hst with ⟨e, _⟩ | ⟨s, q, e, hq, z | ⟨_, hk, hne⟩⟩
    · exact br_t e (px_begin H W I hn hp hw e h3 K)
    · exact absurd z.1 (by omega)
    · have hs := px_Q_s hq
      refine br_f (by rw [e]; exact nI_ne0 (by omega) (by omega)) ⟨htop, ?_⟩
      by_cases s1 : s = 1
      · subst s1
        refine br_t e ?_
        obtain ⟨hb, ⟨_, eq⟩ | ⟨y, _⟩⟩ := hq
        · rw [eq] at hk hne
          exact px_after1 H W I hn hp hw e h3 hb hk hne K
        · exact absurd y (by decide)
      · have s2 : s = 2 := by omega
        subst s2
        refine br_f (by rw [e]; decide) ?_
        exact px_after2 H W I hn hp hw hq hk hne K
theorem px_loop {post : SX → Prop} (H : px_W op arg lf rt rn N) (hN : N ≤ 40) (hl : ln ≤ 20) : ∀ (n s dp : Nat) (oc wt sg tk : Nat → Int32), px_I (px_D op arg lf rt rn tx ln) ln N dp oc wt sg tk → s + px_mu oc sg dp ≤ 2520 → px_mu oc sg dp < n → (∀ (dp' : Int32) (oc' wt' sg' tk' : Nat → Int32), px_Z (px_D op arg lf rt rn tx ln) ln N oc' → (∀ j, oc j ≠ -3 → oc' j ≠ -3) → post (fT, fN, fH, nI ln, dp', op, arg, lf, rt, st, rn, tx, oc', wt', sg', tk')) → wX_workOut_29 post n (nI s) fT fN fH (nI ln) (nI dp) op arg lf rt st rn tx oc wt sg tk := by
  intro n
  induction n with
  | zero => intro s dp oc wt sg tk _ _ h; omega
  | succ n ih =>
    intro s dp oc wt sg tk I hs hn Kp
    refine br_f (nI_ge (b := 3000) (by omega) (by decide)) ?_
    cases dp with
    | zero => exact br_t (by decide) (Kp _ _ _ _ _ (px_I_Z I) (fun _ h => h))
    | succ top =>
      have hc := I.1
      refine br_f (nI_nle (by omega) (by omega)) ?_
      rw [nI_pred]
      refine px_goOn H hN hl I fun dp' oc' wt' sg' tk' S => ?_
      refine nm_r (nI_1 s) ?_
      obtain ⟨I', hm, hj⟩ := S
      exact ih (s + 1) dp' oc' wt' sg' tk' I' (by omega) (by omega) (fun a b c d e z g => Kp a b c d e z (fun j y => g j (hj j y)))
theorem px_workOut {post : SX → Prop} {n p : Nat} {fD : Int32} (H : px_W op arg lf rt rn N) (hN : N ≤ 40) (hl : ln ≤ 20) (Z : px_Z (px_D op arg lf rt rn tx ln) ln N oc) (hn : n < N) (hp : p ≤ ln) (Kp : ∀ (dp' : Int32) (oc' wt' sg' tk' : Nat → Int32), px_Z (px_D op arg lf rt rn tx ln) ln N oc' → oc' (21 * n + p) = pg_L (px_D op arg lf rt rn tx ln) ln N (21 * n + p) → post (fT, fN, fH, nI ln, dp', op, arg, lf, rt, st, rn, tx, oc', wt', sg', tk')) : wpX_workOut post (fT, fN, fH, nI ln, fD, op, arg, lf, rt, st, rn, tx, oc, wt, sg, tk) (nI n) (nI p) := by
  have W : pg_W (px_D op arg lf rt rn tx ln) ln N := px_pW H hN hl
  unfold wpX_workOut
  dsimp only
  rw [px_ix, nI_clamp (n := 21 * n + p) (by omega)]
  refine ⟨vp_in_nI (by omega) (by decide), ?_⟩
  have fin : ∀ oc' : Nat → Int32, px_Z (px_D op arg lf rt rn tx ln) ln N oc' → oc' (21 * n + p) ≠ -3 → oc' (21 * n + p) = pg_L (px_D op arg lf rt rn tx ln) ln N (21 * n + p) := by
    intro oc' Z' h
    rcases Z' (21 * n + p) (by omega) with z | z
    · exact absurd z h
    · exact z.2.2
  by_cases c : oc (21 * n + p) = -3
  · refine br_t c (px_putOn (dp := 0) (by omega) (by decide) ?_)
    obtain ⟨I, hm⟩ := px_start (wt := wt) (sg := sg) (tk := tk) W Z hn hp c
    refine ⟨2521, px_loop (post := post) H hN hl 2521 0 1 (upd oc (21 * n + p) (-4)) (upd wt 0 (nI (21 * n + p))) (upd sg 0 0) tk I (by omega) (by omega) ?_⟩
    intro a b d e f Z' g
    exact Kp a b d e f Z' (fin b Z' (g _ (by rw [pk_us]; decide)))
  · refine br_f c ?_
    have hc := pg_cnt_le (-3) oc 840
    have hm : px_mu oc sg 0 ≤ 2520 := by
      show 3 * pg_cnt (-3) oc 840 + 0 ≤ 2520
      omega
    refine ⟨2521, px_loop (post := post) H hN hl 2521 0 0 oc wt sg tk (px_Z_I Z) (by omega) (by omega) ?_⟩
    intro a b d e f Z' g
    exact Kp a b d e f Z' (fin b Z' (g _ c))
end
/-- what a rule answers at a place -/
noncomputable def px_ans (op arg lf rt rn tx : Nat → Int32) (ln N r p : Nat) : Int32 := if rn r < 0 then -1 else pg_L (px_D op arg lf rt rn tx ln) ln N (21 * (rn r).toNatClampNeg + p)
section
variable {fT fN fH : Int32} {ln N : Nat} {op arg lf rt st rn tx oc wt sg tk : Nat → Int32}
theorem px_match {post : Int32 → SX → Prop} {r p : Nat} {fD : Int32} (H : px_W op arg lf rt rn N) (hN : N ≤ 40) (hl : ln ≤ 20) (Z : px_Z (px_D op arg lf rt rn tx ln) ln N oc) (hr : r < 4) (hp : p ≤ ln) (Kp : ∀ (dp' : Int32) (oc' wt' sg' tk' : Nat → Int32), px_Z (px_D op arg lf rt rn tx ln) ln N oc' → post (px_ans op arg lf rt rn tx ln N r p) (fT, fN, fH, nI ln, dp', op, arg, lf, rt, st, rn, tx, oc', wt', sg', tk')) : wpX_match post (fT, fN, fH, nI ln, fD, op, arg, lf, rt, st, rn, tx, oc, wt, sg, tk) (nI r) (nI p) := by
  have hrr : vp_in (nI r) 4 := vp_in_nI hr (by decide)
  unfold wpX_match
  dsimp only
  rw [nI_clamp (n := r) (by omega)]
  refine br_f (nI_pos (by omega)) (br_f (nI_nlt (a := 3) (by omega) (by decide)) (br_f (nI_pos (by omega)) (br_t (nI_le hp (by omega)) ⟨hrr, ?_⟩)))
  unfold px_ans at Kp
  rcases H.2 r hr with z | ⟨m, hm, em⟩
  · rw [if_pos (by rw [z]; decide)] at Kp
    exact br_f (by rw [z]; decide) (Kp _ _ _ _ _ Z)
  · rw [if_neg (by rw [em]; exact nI_pos (by omega)), em, nI_clamp (by omega)] at Kp
    rw [em]
    refine br_t (nI_pos' (by omega)) ⟨hrr, px_workOut H hN hl Z hm hp ?_⟩
    intro a b c d e Z' g
    show vp_in (nI r) 4 ∧ (vp_in (21 * rn r + nI p) 840 ∧ post (b (21 * rn r + nI p).toNatClampNeg) _)
    rw [em, px_ix, nI_clamp (by omega), g]
    exact ⟨hrr, vp_in_nI (by omega) (by decide), Kp a b c d e Z'⟩
end
end
section
/-! Y's grammar out of its arrays, and what follows there -/
def py_D (co ar fi la ru tx : Nat → Int32) (ln : Nat) : PgD :=
  (pg_base co ar ru tx ln, co, fun t => if co t = 3 then (ru (ar t).toNatClampNeg).toNatClampNeg else if co t = 4 ∨ co t = 5 then (fi t).toNatClampNeg else (la t).toNatClampNeg, fun t => if co t = 6 then t else (la t).toNatClampNeg)
def py_W (co ar fi la ru : Nat → Int32) (T : Nat) : Prop :=
  (∀ t, t < T → (∃ j, j < 11 ∧ co t = nI j ∧ (4 ≤ j → ∃ m, m < T ∧ la t = nI m) ∧ (j = 4 ∨ j = 5 → ∃ m, m < T ∧ fi t = nI m)) ∧ (∃ a, a < 4 ∧ ar t = nI a)) ∧ (∀ r, r < 4 → ru r = -1 ∨ ∃ m, m < T ∧ ru r = nI m) ∧ (∀ t, t < 40 → ∃ m, m < 40 ∧ la t = nI m)
theorem pg_b_10 {op arg rn tx : Nat → Int32} {ln n p : Nat} (h : op n = 10) : pg_base op arg rn tx ln n p = some (-2) := if_pos h
theorem pg_b_lo {op arg rn tx : Nat → Int32} {ln n p : Nat} (h : op n ≤ 2) : pg_base op arg rn tx ln n p = some (pg_one (op n) (arg n) tx ln p) := px_b_lo (lf := op) (rt := op) h
theorem pg_b_und {op arg rn tx : Nat → Int32} {ln n p : Nat} (h : op n = 3) (hr : rn (arg n).toNatClampNeg < 0) : pg_base op arg rn tx ln n p = some (-1) := px_b_und (lf := op) (rt := op) h hr
theorem pg_b_none {op arg rn tx : Nat → Int32} {ln n p : Nat} (h10 : ¬ op n = 10) (h2 : ¬ op n ≤ 2) (hr : ¬ (op n = 3 ∧ rn (arg n).toNatClampNeg < 0)) : pg_base op arg rn tx ln n p = none := px_b_none (lf := op) (rt := op) h10 h2 hr
theorem py_pW {co ar fi la ru tx : Nat → Int32} {ln T : Nat} (H : py_W co ar fi la ru T) (hT : T ≤ 40) (hl : ln ≤ 20) : pg_W (py_D co ar fi la ru tx ln) ln T := by
  refine ⟨hT, hl, fun t p ht hp hb => ?_, fun t p v ht hp hb => ?_⟩
  · obtain ⟨⟨j, hj, ej, h4, h5⟩, a, ha, ea⟩ := H.1 t ht
    change pg_base co ar ru tx ln t p = none at hb
    have h3j : 3 ≤ j := by
      refine Classical.byContradiction fun z => ?_
      have hle : co t ≤ 2 := by rw [ej]; exact nI_le (b := 2) (by omega) (by decide)
      rw [pg_b_lo hle] at hb
      exact absurd hb (by simp)
    show (if co t = 3 then (ru (ar t).toNatClampNeg).toNatClampNeg else if co t = 4 ∨ co t = 5 then (fi t).toNatClampNeg else (la t).toNatClampNeg) < T ∧ (co t = 4 ∨ co t = 5 ∨ co t = 6 → (if co t = 6 then t else (la t).toNatClampNeg) < T)
    constructor
    · by_cases c3 : co t = 3
      · rw [if_pos c3, ea, nI_clamp (by omega)]
        rcases H.2.1 a ha with z | ⟨m, hm, em⟩
        · rw [pg_b_und c3 (by rw [ea, nI_clamp (by omega), z]; decide)] at hb
          exact absurd hb (by simp)
        · rw [em, nI_clamp (by omega)]; exact hm
      · rw [if_neg c3]
        have hj3 : j ≠ 3 := fun e => c3 (by rw [ej, e]; rfl)
        by_cases c45 : co t = 4 ∨ co t = 5
        · rw [if_pos c45]
          have h45 : j = 4 ∨ j = 5 := by
            rcases c45 with e | e
            · left; rw [ej] at e; exact (nI_eq (b := 4) (by omega) (by decide)).mp e
            · right; rw [ej] at e; exact (nI_eq (b := 5) (by omega) (by decide)).mp e
          obtain ⟨m, hm, em⟩ := h5 h45
          rw [em, nI_clamp (by omega)]; exact hm
        · rw [if_neg c45]
          obtain ⟨m, hm, em⟩ := h4 (by omega)
          rw [em, nI_clamp (by omega)]; exact hm
    · intro hc
      by_cases c6 : co t = 6
      · rw [if_pos c6]; exact ht
      · rw [if_neg c6]
        have hj3 : j ≠ 3 := fun z => by
          rw [ej, z] at hc
          exact absurd hc (by decide)
        obtain ⟨m, hm, em⟩ := h4 (by omega)
        rw [em, nI_clamp (by omega)]; exact hm
  · change pg_base co ar ru tx ln t p = some v at hb
    unfold pg_base at hb
    split at hb
    · cases hb; exact Or.inl rfl
    · split at hb
      · cases hb; exact pg_one_R hp
      · split at hb
        · cases hb; exact Or.inr (Or.inl rfl)
        · cases hb
def py_J (o : Nat → Int32) (i k : Nat) : Int32 :=
  if 0 ≤ o i then (if 0 ≤ o (k + (o i).toNatClampNeg) then o i + o (k + (o i).toNatClampNeg) else o (k + (o i).toNatClampNeg)) else o i
theorem py_J_4 {ln x y p : Nat} {c : Int32} {o : Nat → Int32} (hl : ln ≤ 20) (ok : pg_ok ln o) (hx : x < 40) (hy : y < 40) (hp : p ≤ ln) (hc : c = 4 ∨ (c = 6 ∧ 0 < o (21 * x + p))) : py_J o (21 * x + p) (21 * y + p) = pg_G1 c (21 * y + p) o (o (21 * x + p)) := by
  have h5 : ¬ c = 5 := by
    rcases hc with e | e
    · rw [e]; decide
    · rw [e.1]; decide
  have hr := ok x p hx hp
  unfold py_J pg_G1
  rcases hr with e | e | ⟨a, ha, e⟩
  · rw [e, if_neg (by decide), if_pos rfl]
  · have c4 : c = 4 := by
      rcases hc with z | z
      · exact z
      · rw [e] at z; exact absurd z.2 (by decide)
    rw [e, c4, if_neg (by decide), if_neg (by decide), if_neg (by decide)]
    decide
  · have s : pg_sec c (nI a) := by
      rcases hc with z | z
      · exact Or.inl ⟨z, nI_pos' (by omega)⟩
      · rw [e] at z; exact Or.inr (Or.inr z)
    rw [e, if_pos (nI_pos' (by omega)), if_neg (pg_ne (by omega) (by decide)), if_pos s]
    have et : pg_tk c (nI a) = nI a := if_neg h5
    rw [et, nI_clamp (by omega), Nat.add_assoc]
    have hr2 := ok y (p + a) hy ha
    unfold pg_G2
    rcases hr2 with f | f | ⟨b, hb, f⟩
    · rw [f, if_neg (by decide), if_pos rfl]
    · rw [f, if_neg (by decide), if_neg (by decide)]
    · rw [f, if_pos (nI_pos' (by omega)), if_neg (pg_ne (by omega) (by decide)), if_pos (nI_pos' (by omega))]
section
variable {fH : Int32} {ln T : Nat} {co ar fi la st ru tx o : Nat → Int32}
theorem py_joined {post : Int32 → Prop} {x y p : Nat} (hl : ln ≤ 20) (ok : pg_ok ln o) (hx : x < 40) (hy : y < 40) (hp : p ≤ ln) (h : post (py_J o (21 * x + p) (21 * y + p))) : wpY_joined post (nI T, fH, nI ln, co, ar, fi, la, st, ru, tx, o) (nI x) (nI y) (nI p) := by
  have hr := ok x p hx hp
  unfold wpY_joined
  dsimp only
  rw [px_ix, px_ix, nI_clamp (n := 21 * x + p) (by omega)]
  unfold py_J at h
  refine ⟨vp_in_nI (by omega) (by decide), nm_e ?_⟩
  by_cases z : 0 ≤ o (21 * x + p)
  · rw [if_pos z] at h
    refine br_t z ?_
    rcases hr with e | e | ⟨a, ha, e⟩
    · rw [e] at z; exact absurd z (by decide)
    · rw [e] at z; exact absurd z (by decide)
    · rw [e, nI_clamp (by omega)] at h
      rw [e, nI_add, nI_clamp (by omega)]
      refine ⟨vp_in_nI (by omega) (by decide), nm_e ?_⟩
      by_cases z2 : 0 ≤ o (21 * y + p + a)
      · rw [if_pos z2] at h; exact br_t z2 h
      · rw [if_neg z2] at h; exact br_f z2 h
  · rw [if_neg z] at h; exact br_f z h
theorem py_called {post : Int32 → Prop} {r p : Nat} (H : ru r = -1 ∨ ∃ m, m < T ∧ ru r = nI m) (hT : T ≤ 40) (hl : ln ≤ 20) (hr : r < 4) (hp : p ≤ ln) (h : post (if ru r < 0 then -1 else o (21 * (ru r).toNatClampNeg + p))) : wpY_called post (nI T, fH, nI ln, co, ar, fi, la, st, ru, tx, o) (nI r) (nI p) := by
  have hrr : vp_in (nI r) 4 := vp_in_nI hr (by decide)
  unfold wpY_called
  dsimp only
  rw [nI_clamp (n := r) (by omega)]
  refine ⟨hrr, ?_⟩
  rcases H with z | ⟨m, hm, em⟩
  · rw [z, if_pos (by decide)] at h
    exact br_f (by rw [z]; decide) h
  · rw [em, if_neg (nI_pos (by omega)), nI_clamp (by omega)] at h
    rw [em, px_ix, nI_clamp (n := 21 * m + p) (by omega)]
    exact br_t (nI_pos' (by omega)) ⟨hrr, vp_in_nI (by omega) (by decide), h⟩
theorem py_follows {post : Int32 → Prop} {t p : Nat} (H : py_W co ar fi la ru T) (hT : T ≤ 40) (hl : ln ≤ 20) (ok : pg_ok ln o) (ht : t < T) (hp : p ≤ ln) (h : post (pg_F (py_D co ar fi la ru tx ln) o t p)) : wpY_follows post (nI T, fH, nI ln, co, ar, fi, la, st, ru, tx, o) (nI t) (nI p) := by
  obtain ⟨⟨j, hj, ej, h4, h5⟩, a, ha, ea⟩ := H.1 t ht
  obtain ⟨l, hl40, el⟩ := H.2.2 t (by omega)
  have hx := ok l p hl40 hp
  have htt : vp_in (nI t) 40 := vp_in_nI (by omega) (by decide)
  have hcase : co t = 0 ∨ co t = 1 ∨ co t = 2 ∨ co t = 3 ∨ co t = 4 ∨ co t = 5 ∨ co t = 6 ∨ co t = 7 ∨ co t = 8 ∨ co t = 9 ∨ co t = 10 := by
    have hjc : j = 0 ∨ j = 1 ∨ j = 2 ∨ j = 3 ∨ j = 4 ∨ j = 5 ∨ j = 6 ∨ j = 7 ∨ j = 8 ∨ j = 9 ∨ j = 10 := by omega
    rw [ej]
    rcases hjc with e | e | e | e | e | e | e | e | e | e | e <;> subst e <;> decide
  have hb0 : co t ≤ 2 → pg_F (py_D co ar fi la ru tx ln) o t p = pg_one (co t) (ar t) tx ln p := fun z => pg_F_some (pg_b_lo z)
  have hb1 : ¬ co t = 10 → ¬ co t ≤ 2 → ¬ co t = 3 → ∀ x, ((py_D co ar fi la ru tx ln)).2.2.1 t = x → pg_F (py_D co ar fi la ru tx ln) o t p = pg_G1 (co t) (21 * ((py_D co ar fi la ru tx ln)).2.2.2 t + p) o (o (21 * x + p)) := by
    intro z1 z2 z3 x ex
    have hn : ((py_D co ar fi la ru tx ln)).1 t p = none := pg_b_none z1 z2 (fun z => z3 z.1)
    rw [pg_F_none hn, ex]
    rfl
  have e1 : ¬ co t = 3 → ¬ (co t = 4 ∨ co t = 5) → ((py_D co ar fi la ru tx ln)).2.2.1 t = l := by
    intro z1 z2
    show (if co t = 3 then (ru (ar t).toNatClampNeg).toNatClampNeg else if co t = 4 ∨ co t = 5 then (fi t).toNatClampNeg else (la t).toNatClampNeg) = l
    rw [if_neg z1, if_neg z2, el, nI_clamp (by omega)]
  have e1f : (co t = 4 ∨ co t = 5) → ∃ f, f < 40 ∧ fi t = nI f ∧ ((py_D co ar fi la ru tx ln)).2.2.1 t = f := by
    intro z
    have h45 : j = 4 ∨ j = 5 := by
      rcases z with e | e
      · left; rw [ej] at e; exact (nI_eq (b := 4) (by omega) (by decide)).mp e
      · right; rw [ej] at e; exact (nI_eq (b := 5) (by omega) (by decide)).mp e
    obtain ⟨m, hm, em⟩ := h5 h45
    refine ⟨m, by omega, em, ?_⟩
    show (if co t = 3 then (ru (ar t).toNatClampNeg).toNatClampNeg else if co t = 4 ∨ co t = 5 then (fi t).toNatClampNeg else (la t).toNatClampNeg) = m
    have z3 : ¬ co t = 3 := by rcases z with e | e <;> rw [e] <;> decide
    rw [if_neg z3, if_pos z, em, nI_clamp (by omega)]
  have e2 : ¬ co t = 6 → ((py_D co ar fi la ru tx ln)).2.2.2 t = l := by
    intro z
    show (if co t = 6 then t else (la t).toNatClampNeg) = l
    rw [if_neg z, el, nI_clamp (by omega)]
  have e26 : co t = 6 → ((py_D co ar fi la ru tx ln)).2.2.2 t = t := fun z => if_pos z
  unfold wpY_follows
  dsimp only
  rw [nI_clamp (n := t) (by omega), el, px_ix, nI_clamp (n := 21 * l + p) (by omega), ea]
  refine ⟨htt, nm_e ⟨htt, vp_in_nI (by omega) (by decide), nm_e ?_⟩⟩
  rcases hcase with e | e | e | e | e | e | e | e | e | e | e
  · rw [hb0 (by rw [e]; decide), e] at h
    rw [e]
    unfold pg_one at h
    rw [if_neg (by decide)] at h
    refine br_t rfl ?_
    by_cases z : ln ≤ p
    · rw [if_pos z] at h; exact br_t (nI_le z (by omega)) h
    · rw [if_neg z, if_neg (by decide), ea] at h
      refine br_f (nI_ge (by omega) (by omega)) ⟨vp_in_nI (by omega) (by decide), htt, ?_⟩
      rw [nI_clamp (n := p) (by omega)]
      by_cases y : tx p = nI a
      · rw [if_pos y] at h; exact br_t y h
      · rw [if_neg y] at h; exact br_f y h
  · rw [hb0 (by rw [e]; decide), e] at h
    rw [e]
    unfold pg_one at h
    rw [if_neg (by decide)] at h
    refine br_f (by decide) (br_t rfl ?_)
    by_cases z : ln ≤ p
    · rw [if_pos z] at h; exact br_t (nI_le z (by omega)) h
    · rw [if_neg z, if_pos rfl] at h
      exact br_f (nI_ge (by omega) (by omega)) h
  · rw [hb0 (by rw [e]; decide), e] at h
    rw [e]
    exact br_f (by decide) (br_f (by decide) (br_t rfl h))
  · rw [e]
    refine br_f (by decide) (br_f (by decide) (br_f (by decide) (br_t rfl ⟨htt, ?_⟩)))
    refine py_called (H.2.1 a ha) hT hl ha hp ?_
    show post _
    rcases H.2.1 a ha with z | ⟨m, hm, em⟩
    · rw [z, if_pos (by decide)]
      rw [pg_F_some (v := -1) (pg_b_und e (by rw [ea, nI_clamp (by omega), z]; decide))] at h
      exact h
    · rw [em, if_neg (nI_pos (by omega)), nI_clamp (by omega)]
      have hn : ((py_D co ar fi la ru tx ln)).1 t p = none := pg_b_none (by rw [e]; decide) (by rw [e]; decide) (by rw [ea, nI_clamp (by omega), em]; exact fun z => nI_pos (by omega) z.2)
      have ex : ((py_D co ar fi la ru tx ln)).2.2.1 t = m := by
        show (if co t = 3 then (ru (ar t).toNatClampNeg).toNatClampNeg else if co t = 4 ∨ co t = 5 then (fi t).toNatClampNeg else (la t).toNatClampNeg) = m
        rw [if_pos e, ea, nI_clamp (n := a) (by omega), em, nI_clamp (by omega)]
      have ef : pg_F (py_D co ar fi la ru tx ln) o t p = o (21 * m + p) := by
        rw [pg_F_none hn, ex]
        show pg_G1 (co t) _ o (o (21 * m + p)) = _
        rw [e]
        unfold pg_G1
        by_cases y : o (21 * m + p) = -2
        · rw [if_pos y, y]
        · rw [if_neg y, if_neg (by simp)]
          rfl
      rw [ef] at h
      exact h
  · obtain ⟨f, hf, ef, eD⟩ := e1f (Or.inl e)
    rw [hb1 (by rw [e]; decide) (by rw [e]; decide) (by rw [e]; decide) f eD, e2 (by rw [e]; decide), e, ← py_J_4 hl ok hf hl40 hp (Or.inl rfl)] at h
    rw [e, ef]
    exact br_f (by decide) (br_f (by decide) (br_f (by decide) (br_f (by decide) (br_t rfl ⟨htt, htt, py_joined hl ok hf hl40 hp h⟩))))
  · obtain ⟨f, hf, ef, eD⟩ := e1f (Or.inr e)
    rw [hb1 (by rw [e]; decide) (by rw [e]; decide) (by rw [e]; decide) f eD, e2 (by rw [e]; decide), e] at h
    rw [e, ef, px_ix, nI_clamp (n := 21 * f + p) (by omega)]
    refine br_f (by decide) (br_f (by decide) (br_f (by decide) (br_f (by decide) (br_f (by decide) (br_t rfl ⟨htt, vp_in_nI (by omega) (by decide), nm_e ?_⟩)))))
    unfold pg_G1 at h
    rcases ok f p hf hp with y | y | ⟨b, hb, y⟩
    · rw [y, if_pos rfl] at h
      rw [y]
      exact br_f (by decide) h
    · rw [y, if_neg (by decide), if_pos (by decide)] at h
      rw [y]
      refine br_t rfl ?_
      have et : pg_tk 5 (-1) = 0 := rfl
      rw [et, show (0 : Int32).toNatClampNeg = 0 from by decide, Nat.add_zero] at h
      unfold pg_G2 at h
      rcases hx with x | x | ⟨c, hc, x⟩
      · rw [x, if_pos rfl] at h; rw [x]; exact h
      · rw [x, if_neg (by decide), if_neg (by decide)] at h; rw [x]; exact h
      · rw [x, if_neg (pg_ne (by omega) (by decide)), if_pos (nI_pos' (by omega)), Int32.zero_add] at h; rw [x]; exact h
    · have ns : ¬ pg_sec 5 (nI b) := by
        rintro (z | z | z)
        · exact absurd z.1 (by decide)
        · exact nI_pos (by omega) z.2
        · exact absurd z.1 (by decide)
      rw [y, if_neg (pg_ne (by omega) (by decide)), if_neg ns] at h
      rw [y]
      exact br_f (pg_ne (by omega) (by decide)) h
  · rw [hb1 (by rw [e]; decide) (by rw [e]; decide) (by rw [e]; decide) l (e1 (by rw [e]; decide) (by rw [e]; decide)), e26 e, e] at h
    rw [e]
    refine br_f (by decide) (br_f (by decide) (br_f (by decide) (br_f (by decide) (br_f (by decide) (br_f (by decide) ?_)))))
    by_cases y : o (21 * l + p) = -2
    · unfold pg_G1 at h
      rw [if_pos y] at h
      exact br_t y h
    · refine br_f y (br_t rfl ?_)
      by_cases z : 0 < o (21 * l + p)
      · rw [← py_J_4 hl ok hl40 (show t < 40 by omega) hp (Or.inr ⟨rfl, z⟩)] at h
        exact br_t z ⟨htt, py_joined hl ok hl40 (by omega) hp h⟩
      · have ns : ¬ pg_sec 6 (o (21 * l + p)) := by
          rintro (x | x | x)
          · exact absurd x.1 (by decide)
          · exact absurd x.1 (by decide)
          · exact z x.2
        unfold pg_G1 at h
        rw [if_neg y, if_neg ns] at h
        have ez : pg_fin 6 (o (21 * l + p)) = 0 := by
          unfold pg_fin
          rw [if_pos (by decide)]
          split
          · rename_i w
            exact Int32.le_antisymm (Int32.not_lt.mp z) w
          · rfl
        rw [ez] at h
        exact br_f z h
  · rw [hb1 (by rw [e]; decide) (by rw [e]; decide) (by rw [e]; decide) l (e1 (by rw [e]; decide) (by rw [e]; decide)), e] at h
    rw [e]
    refine br_f (by decide) (br_f (by decide) (br_f (by decide) (br_f (by decide) (br_f (by decide) (br_f (by decide) ?_)))))
    unfold pg_G1 at h
    by_cases y : o (21 * l + p) = -2
    · rw [if_pos y] at h
      exact br_t y h
    · rw [if_neg y, if_neg (by simp)] at h
      unfold pg_fin at h
      rw [if_pos (by decide)] at h
      refine br_f y (br_f (by decide) (br_t rfl ?_))
      by_cases z : 0 ≤ o (21 * l + p)
      · rw [if_pos z] at h; exact br_t z h
      · rw [if_neg z] at h; exact br_f z h
  · rw [hb1 (by rw [e]; decide) (by rw [e]; decide) (by rw [e]; decide) l (e1 (by rw [e]; decide) (by rw [e]; decide)), e] at h
    rw [e]
    refine br_f (by decide) (br_f (by decide) (br_f (by decide) (br_f (by decide) (br_f (by decide) (br_f (by decide) ?_)))))
    unfold pg_G1 at h
    by_cases y : o (21 * l + p) = -2
    · rw [if_pos y] at h
      exact br_t y h
    · rw [if_neg y, if_neg (by simp)] at h
      unfold pg_fin at h
      rw [if_neg (by decide), if_pos rfl] at h
      refine br_f y (br_f (by decide) (br_f (by decide) (br_t rfl ?_)))
      by_cases z : 0 ≤ o (21 * l + p)
      · rw [if_pos z] at h; exact br_t z h
      · rw [if_neg z] at h; exact br_f z h
  · rw [hb1 (by rw [e]; decide) (by rw [e]; decide) (by rw [e]; decide) l (e1 (by rw [e]; decide) (by rw [e]; decide)), e] at h
    rw [e]
    refine br_f (by decide) (br_f (by decide) (br_f (by decide) (br_f (by decide) (br_f (by decide) (br_f (by decide) ?_)))))
    unfold pg_G1 at h
    by_cases y : o (21 * l + p) = -2
    · rw [if_pos y] at h
      exact br_t y h
    · rw [if_neg y, if_neg (by simp)] at h
      unfold pg_fin at h
      rw [if_neg (by decide), if_neg (by decide), if_pos rfl] at h
      refine br_f y (br_f (by decide) (br_f (by decide) (br_f (by decide) (br_t rfl ?_))))
      by_cases z : 0 ≤ o (21 * l + p)
      · rw [if_pos z] at h; exact br_t z h
      · rw [if_neg z] at h; exact br_f z h
  · rw [pg_F_some (v := -2) (pg_b_10 e)] at h
    rw [e]
    refine br_f (by decide) (br_f (by decide) (br_f (by decide) (br_f (by decide) (br_f (by decide) (br_f (by decide) ?_)))))
    by_cases y : o (21 * l + p) = -2
    · exact br_t y h
    · exact br_f y (br_f (by decide) (br_f (by decide) (br_f (by decide) (br_f (by decide) h))))
end
end
section
/-! Y's work: passes until no outcome follows any more -/
theorem pg_le_ok {D : PgD} {ln T : Nat} {o : Nat → Int32} (W : pg_W D ln T) (h : pg_le o (pg_L D ln T)) : pg_ok ln o := by
  intro t p ht hp
  have hl := W.2.1
  rcases h (21 * t + p) (by omega) with e | e
  · exact Or.inl e
  · rw [e]; exact pg_L_ok W t p ht hp
section
variable {fH : Int32} {ln T : Nat} {co ar fi la st ru tx : Nat → Int32}
theorem py_pass {post : SY → Prop} {J : Int32 → (Nat → Int32) → (Nat → Int32) → (Nat → Int32) → (Nat → Int32) → (Nat → Int32) → (Nat → Int32) → (Nat → Int32) → (Nat → Int32) → Prop} (H : py_W co ar fi la ru T) (hT : T ≤ 40) (hl : ln ≤ 20) : ∀ (n i : Nat) (o : Nat → Int32) (ch : Int32), 21 * T - i < n → i ≤ 21 * T → pg_le o (pg_L (py_D co ar fi la ru tx ln) ln T) → (∀ (o' : Nat → Int32) (ch' : Int32), pg_le o' (pg_L (py_D co ar fi la ru tx ln) ln T) → pg_cnt (-2) o' 840 ≤ pg_cnt (-2) o 840 → ((ch' = ch ∧ o' = o ∧ ∀ j, i ≤ j → j < 21 * T → j % 21 ≤ ln → o j = -2 → pg_F (py_D co ar fi la ru tx ln) o (j / 21) (j % 21) = -2) ∨ (ch' = 1 ∧ pg_cnt (-2) o' 840 < pg_cnt (-2) o 840)) → J ch' co ar fi la st ru tx o') → wY_work_33 post J (nI T) fH (nI ln) n ch (nI i) co ar fi la st ru tx o := by
  have W : pg_W (py_D co ar fi la ru tx ln) ln T := py_pW H hT hl
  have e21 : (21 : Int32) * nI T = nI (21 * T) := pk_mul 21 T
  intro n
  induction n with
  | zero => intro i o ch h; omega
  | succ n ih =>
    intro i o ch hn hiT le K
    by_cases c : 21 * T ≤ i
    · have ci : (21 : Int32) * nI T ≤ nI i := by rw [e21]; exact nI_le c (by omega)
      exact br_t ci (K o ch le (Nat.le_refl _) (Or.inl ⟨rfl, rfl, fun j h1 h2 => by omega⟩))
    · have ci : ¬ (21 : Int32) * nI T ≤ nI i := by rw [e21]; exact nI_ge (by omega) (by omega)
      have ok := pg_le_ok W le
      have noch : (i % 21 ≤ ln → o i = -2 → pg_F (py_D co ar fi la ru tx ln) o (i / 21) (i % 21) = -2) → wY_work_33 post J (nI T) fH (nI ln) n ch (nI (i + 1)) co ar fi la st ru tx o := by
        intro hnew
        refine ih (i + 1) o ch (by omega) (by omega) le (fun o' ch' h1 h2 h3 => K o' ch' h1 h2 ?_)
        rcases h3 with ⟨a, b, d⟩ | z
        · refine Or.inl ⟨a, b, fun j g1 g2 g3 g4 => ?_⟩
          by_cases ej : j = i
          · rw [ej] at g3 g4 ⊢; exact hnew g3 g4
          · exact d j (by omega) g2 g3 g4
        · exact Or.inr z
      refine br_f ci ⟨by decide, nm_r (e' := nI (i % 21)) ?_ ⟨vp_in_nI (by omega) (by decide), ?_⟩⟩
      · exact pk_rem (d := 21) (by omega) (by omega) (by decide)
      rw [nI_clamp (n := i) (by omega)]
      by_cases c2 : o i = -2
      · refine br_t c2 ?_
        by_cases c3 : ln < i % 21
        · refine br_t (nI_lt c3 (by omega)) (br_t rfl (nm_r (nI_1 i) (noch fun z => ?_)))
          omega
        · refine br_f (nI_nlt (by omega) (by omega)) ⟨by decide, ?_⟩
          have ed : nI i / 21 = nI (i / 21) := pk_div (d := 21) (by omega) (by omega) (by decide)
          rw [ed]
          refine py_follows H hT hl ok (by omega) (by omega) ?_
          by_cases c4 : pg_F (py_D co ar fi la ru tx ln) o (i / 21) (i % 21) = -2
          · exact br_t c4 (nm_r (nI_1 i) (noch fun _ _ => c4))
          · refine br_f c4 ⟨vp_in_nI (by omega) (by decide), ?_⟩
            rw [nI_clamp (n := i) (by omega)]
            refine nm_e (nm_r (nI_1 i) ?_)
            have ei : 21 * (i / 21) + i % 21 = i := by omega
            have hv : pg_F (py_D co ar fi la ru tx ln) o (i / 21) (i % 21) = pg_L (py_D co ar fi la ru tx ln) ln T i := by
              rcases pg_F_mono W ok le (show i / 21 < T by omega) (show i % 21 ≤ ln by omega) with z | z
              · exact absurd z c4
              · rw [z, ← pg_L_fix W (show i / 21 < T by omega) (show i % 21 ≤ ln by omega), ei]
            have hd := pg_cnt_dec (v := -2) (o := o) (i := i) c2 c4 840 (by omega)
            refine ih (i + 1) (upd o i (pg_F (py_D co ar fi la ru tx ln) o (i / 21) (i % 21))) 1 (by omega) (by omega) (fun j hj => ?_) (fun o' ch' h1 h2 h3 => K o' ch' h1 (by omega) (Or.inr ?_))
            · by_cases ej : j = i
              · right; rw [ej, pk_us]; exact hv
              · rw [pk_un ej]; exact le j hj
            · rcases h3 with ⟨a, b, _⟩ | ⟨a, b⟩
              · exact ⟨a, by rw [b]; omega⟩
              · exact ⟨a, by omega⟩
      · exact br_f c2 (br_t rfl (nm_r (nI_1 i) (noch fun _ z => absurd z c2)))
theorem py_while {post : SY → Prop} (H : py_W co ar fi la ru T) (hT : T ≤ 40) (hl : ln ≤ 20) (K : ∀ o' : Nat → Int32, (∀ i, i < 840 → o' i = pg_L (py_D co ar fi la ru tx ln) ln T i) → post (nI T, fH, nI ln, co, ar, fi, la, st, ru, tx, o')) : ∀ (n : Nat) (o : Nat → Int32), pg_cnt (-2) o 840 + 1 < n → pg_le o (pg_L (py_D co ar fi la ru tx ln) ln T) → wY_work_25 post (nI T) fH (nI ln) n 1 co ar fi la st ru tx o := by
  have W : pg_W (py_D co ar fi la ru tx ln) ln T := py_pW H hT hl
  intro n
  induction n with
  | zero => intro o h; omega
  | succ n ih =>
    intro o hn le
    refine br_f (by decide) ⟨21 * T + 1, py_pass (post := post) H hT hl (21 * T + 1) 0 o 0 (by omega) (by omega) le ?_⟩
    intro o' ch' h1 h2 h3
    rcases h3 with ⟨a, b, hc⟩ | ⟨a, b⟩
    · obtain ⟨n, rfl⟩ : ∃ m, n = m + 1 := ⟨n - 1, by omega⟩
      refine br_t a (K o' (pg_L_top W h1 fun i g1 g2 g3 => ?_))
      rw [b] at g3 ⊢
      exact hc i (by omega) (by omega) g2 g3
    · rw [a]
      exact ih o' (by omega) h1
theorem py_fill {post : SY → Prop} (K : ∀ o' : Nat → Int32, (∀ i, i < 840 → o' i = -2) → ∃ n25 : Nat, wY_work_25 post (nI T) fH (nI ln) n25 1 co ar fi la st ru tx o') : ∀ (d n i : Nat) (o : Nat → Int32), i + d = 840 → d < n → (∀ j, j < i → o j = -2) → wY_work_2 post (nI T) fH (nI ln) n (nI i) co ar fi la st ru tx o := by
  intro d
  induction d with
  | zero =>
    intro n i o hi hn ho
    obtain ⟨n, rfl⟩ : ∃ m, n = m + 1 := ⟨n - 1, by omega⟩
    exact br_t (nI_le (a := 840) (by omega) (by omega)) (K o (fun j hj => ho j (by omega)))
  | succ d ih =>
    intro n i o hi hn ho
    obtain ⟨n, rfl⟩ : ∃ m, n = m + 1 := ⟨n - 1, by omega⟩
    refine br_f (nI_ge (b := 840) (by omega) (by decide)) ⟨vp_in_nI (by omega) (by decide), ?_⟩
    rw [nI_clamp (n := i) (by omega)]
    refine nm_e (nm_r (nI_1 i) (ih n (i + 1) _ (by omega) (by omega) fun j hj => ?_))
    by_cases e : j = i
    · rw [e, pk_us]
    · rw [pk_un e]; exact ho j (by omega)
theorem py_work {post : SY → Prop} {o : Nat → Int32} (H : py_W co ar fi la ru T) (hT : T ≤ 40) (hl : ln ≤ 20) (K : ∀ o' : Nat → Int32, (∀ i, i < 840 → o' i = pg_L (py_D co ar fi la ru tx ln) ln T i) → post (nI T, fH, nI ln, co, ar, fi, la, st, ru, tx, o')) : wpY_work post (nI T, fH, nI ln, co, ar, fi, la, st, ru, tx, o) := by
  unfold wpY_work
  dsimp only
  refine ⟨841, py_fill (fun o' ho => ?_) 840 841 0 o (by omega) (by omega) (fun j hj => by omega)⟩
  exact ⟨842, py_while H hT hl K 842 o' (by have := pg_cnt_le (-2) o' 840; omega) (fun i hi => Or.inl (ho i hi))⟩
end
/-- what a rule answers at a place -/
noncomputable def py_ans (co ar fi la ru tx : Nat → Int32) (ln T r p : Nat) : Int32 := if ru r < 0 then -1 else pg_L (py_D co ar fi la ru tx ln) ln T (21 * (ru r).toNatClampNeg + p)
section
variable {fH : Int32} {ln T : Nat} {co ar fi la st ru tx o : Nat → Int32}
theorem py_ask {post : Int32 → Prop} {r p : Nat} (H : py_W co ar fi la ru T) (hT : T ≤ 40) (hl : ln ≤ 20) (ho : ∀ i, i < 840 → o i = pg_L (py_D co ar fi la ru tx ln) ln T i) (hr : r < 4) (hp : p ≤ ln) (h : post (py_ans co ar fi la ru tx ln T r p)) : wpY_called post (nI T, fH, nI ln, co, ar, fi, la, st, ru, tx, o) (nI r) (nI p) := by
  refine py_called (H.2.1 r hr) hT hl hr hp ?_
  unfold py_ans at h
  rcases H.2.1 r hr with z | ⟨m, hm, em⟩
  · rw [z] at h ⊢; exact h
  · rw [em, nI_clamp (by omega)] at h ⊢
    rw [ho (21 * m + p) (by omega)]; exact h
end
end
section
/-! the relation: nodes of X are tokens of Y through φ -/
def rl_N (N T : Nat) (φ : Nat → Nat) (op arg lf rt co ar fi la : Nat → Int32) (n : Nat) : Prop :=
  φ n < T ∧ co (φ n) = op n ∧ ar (φ n) = arg n ∧ (∃ a, a < 4 ∧ arg n = nI a) ∧ ∃ j, j < 10 ∧ op n = nI j ∧ (4 ≤ j → ∃ m, m < N ∧ lf n = nI m ∧ (if j = 4 ∨ j = 5 then fi (φ n) else la (φ n)) = nI (φ m)) ∧ (j = 4 ∨ j = 5 → ∃ m, m < N ∧ rt n = nI m ∧ la (φ n) = nI (φ m))
def rl_T (T : Nat) (co ar fi la : Nat → Int32) (t : Nat) : Prop :=
  (∃ j, j < 11 ∧ co t = nI j ∧ (4 ≤ j → ∃ m, m < T ∧ la t = nI m) ∧ (j = 4 ∨ j = 5 → ∃ m, m < T ∧ fi t = nI m)) ∧ (∃ a, a < 4 ∧ ar t = nI a)
def rl_G (T N H ln : Nat) (φ : Nat → Nat) (op arg lf rt sx rn co ar fi la sy ru : Nat → Int32) : Prop :=
  T ≤ 40 ∧ N ≤ T ∧ H ≤ N ∧ ln ≤ 20 ∧ (∀ n, n < N → rl_N N T φ op arg lf rt co ar fi la n) ∧ (∀ t, t < T → rl_T T co ar fi la t) ∧ (∀ t, t < 40 → ∃ m, m < 40 ∧ la t = nI m) ∧ (∀ j, j < H → ∃ m, m < N ∧ sx j = nI m ∧ sy j = nI (φ m)) ∧ (∀ r, r < 4 → (rn r = -1 ∧ ru r = -1) ∨ ∃ m, m < N ∧ rn r = nI m ∧ ru r = nI (φ m))
section
variable {T N H ln : Nat} {φ : Nat → Nat} {op arg lf rt sx rn tx co ar fi la sy ru oc : Nat → Int32}
theorem rl_xW (G : rl_G T N H ln φ op arg lf rt sx rn co ar fi la sy ru) : px_W op arg lf rt rn N := by
  obtain ⟨_, _, _, _, hn, _, _, _, hr⟩ := G
  refine ⟨fun n h => ?_, fun r h => ?_⟩
  · obtain ⟨_, _, _, ha, j, hj, ej, h4, h5⟩ := hn n h
    refine ⟨⟨j, hj, ej, fun z => ?_, fun z => ?_⟩, ha⟩
    · obtain ⟨m, hm, em, _⟩ := h4 z
      exact ⟨m, hm, em⟩
    · obtain ⟨m, hm, em, _⟩ := h5 z
      exact ⟨m, hm, em⟩
  · rcases hr r h with z | ⟨m, hm, em, _⟩
    · exact Or.inl z.1
    · exact Or.inr ⟨m, hm, em⟩
theorem rl_yW (G : rl_G T N H ln φ op arg lf rt sx rn co ar fi la sy ru) : py_W co ar fi la ru T := by
  obtain ⟨_, _, _, _, hn, ht, hl, _, hr⟩ := G
  refine ⟨fun t h => ht t h, fun r h => ?_, hl⟩
  rcases hr r h with z | ⟨m, hm, _, em⟩
  · exact Or.inl z.2
  · exact Or.inr ⟨φ m, (hn m hm).1, em⟩
/-- both sides give a rule the same answer -/
theorem rl_ans {r p : Nat} (G : rl_G T N H ln φ op arg lf rt sx rn co ar fi la sy ru) (hr : r < 4) (hp : p ≤ ln) : py_ans co ar fi la ru tx ln T r p = px_ans op arg lf rt rn tx ln N r p := by
  have WX := rl_xW G
  have WY := rl_yW G
  obtain ⟨hT, hN, hH, hl, hn, ht, hla, hs, hru⟩ := G
  have PX : pg_W (px_D op arg lf rt rn tx ln) ln N := px_pW WX (by omega) hl
  have PY : pg_W (py_D co ar fi la ru tx ln) ln T := py_pW WY hT hl
  have key : ∀ n p, n < N → p ≤ ln → pg_L (py_D co ar fi la ru tx ln) ln T (21 * φ n + p) = pg_L (px_D op arg lf rt rn tx ln) ln N (21 * n + p) := by
    refine pg_sim PX PY (fun n h => (hn n h).1) (fun n p h hp => ?_) (fun n h => (hn n h).2.1) (fun n p h hp hb => ?_) (fun n p h hp hb hc => ?_)
    · obtain ⟨_, ec, ea, ⟨a, ha, eaa⟩, _⟩ := hn n h
      show pg_base co ar ru tx ln (φ n) p = pg_base op arg rn tx ln n p
      unfold pg_base
      rw [ec, ea, eaa, nI_clamp (by omega)]
      rcases hru a ha with ⟨z1, z2⟩ | ⟨m, hm, z1, z2⟩
      · rw [z1, z2]
      · have hm' := (hn m hm).1
        rw [z1, z2, if_neg (c := op n = 3 ∧ nI (φ m) < 0) (fun z => nI_pos (by omega) z.2), if_neg (c := op n = 3 ∧ nI m < 0) (fun z => nI_pos (by omega) z.2)]
    · obtain ⟨_, ec, ea, ⟨a, ha, eaa⟩, j, hj, ej, h4, h5⟩ := hn n h
      change pg_base op arg rn tx ln n p = none at hb
      show (if co (φ n) = 3 then (ru (ar (φ n)).toNatClampNeg).toNatClampNeg else if co (φ n) = 4 ∨ co (φ n) = 5 then (fi (φ n)).toNatClampNeg else (la (φ n)).toNatClampNeg) = φ (if op n = 3 then (rn (arg n).toNatClampNeg).toNatClampNeg else (lf n).toNatClampNeg)
      rw [ec, ea]
      by_cases c3 : op n = 3
      · rw [if_pos c3, if_pos c3, eaa, nI_clamp (by omega)]
        rcases hru a ha with ⟨z1, z2⟩ | ⟨m, hm, z1, z2⟩
        · rw [pg_b_und c3 (by rw [eaa, nI_clamp (by omega), z1]; decide)] at hb
          exact absurd hb (by simp)
        · have hm' := (hn m hm).1
          rw [z1, z2, nI_clamp (by omega), nI_clamp (by omega)]
      · rw [if_neg c3, if_neg c3]
        have h4j : 4 ≤ j := by
          refine Classical.byContradiction fun z => ?_
          have hj3 : j ≠ 3 := fun e => c3 (by rw [ej, e]; rfl)
          have hle : op n ≤ 2 := by rw [ej]; exact nI_le (b := 2) (by omega) (by decide)
          rw [pg_b_lo hle] at hb
          exact absurd hb (by simp)
        obtain ⟨m, hm, em, ef⟩ := h4 h4j
        have hm' := (hn m hm).1
        rw [em, nI_clamp (n := m) (by omega)]
        by_cases c45 : op n = 4 ∨ op n = 5
        · have h45 : j = 4 ∨ j = 5 := by
            rcases c45 with e | e
            · left; rw [ej] at e; exact (nI_eq (b := 4) (by omega) (by decide)).mp e
            · right; rw [ej] at e; exact (nI_eq (b := 5) (by omega) (by decide)).mp e
          rw [if_pos h45] at ef
          rw [if_pos c45, ef, nI_clamp (by omega)]
        · have h45 : ¬ (j = 4 ∨ j = 5) := by
            rintro (e | e)
            · exact c45 (Or.inl (by rw [ej, e]; rfl))
            · exact c45 (Or.inr (by rw [ej, e]; rfl))
          rw [if_neg h45] at ef
          rw [if_neg c45, ef, nI_clamp (by omega)]
    · obtain ⟨_, ec, ea, ⟨a, ha, eaa⟩, j, hj, ej, h4, h5⟩ := hn n h
      change op n = 4 ∨ op n = 5 ∨ op n = 6 at hc
      show (if co (φ n) = 6 then φ n else (la (φ n)).toNatClampNeg) = φ (if op n = 6 then n else (rt n).toNatClampNeg)
      rw [ec]
      by_cases c6 : op n = 6
      · rw [if_pos c6, if_pos c6]
      · have h45 : j = 4 ∨ j = 5 := by
          rcases hc with e | e | e
          · left; rw [ej] at e; exact (nI_eq (b := 4) (by omega) (by decide)).mp e
          · right; rw [ej] at e; exact (nI_eq (b := 5) (by omega) (by decide)).mp e
          · exact absurd e c6
        obtain ⟨m, hm, em, ef⟩ := h5 h45
        have hm' := (hn m hm).1
        rw [if_neg c6, if_neg c6, em, ef, nI_clamp (by omega), nI_clamp (by omega)]
  unfold py_ans px_ans
  rcases hru r hr with ⟨z1, z2⟩ | ⟨m, hm, z1, z2⟩
  · rw [z1, z2, if_pos (by decide), if_pos (by decide)]
  · have hm' := (hn m hm).1
    rw [z1, z2, if_neg (nI_pos (by omega)), if_neg (nI_pos (by omega)), nI_clamp (by omega), nI_clamp (by omega)]
    exact key m p hm hp
/-- the grammar's numbers grow, what stood stands -/
theorem rl_N_map {N' T' : Nat} {φ' : Nat → Nat} {op' arg' lf' rt' co' ar' fi' la' : Nat → Int32} {n : Nat} (h : rl_N N T φ op arg lf rt co ar fi la n) (hN : N ≤ N') (hT : T ≤ T') (hφ : ∀ m, m < N → φ' m = φ m) (hn : n < N) (e1 : op' n = op n) (e2 : arg' n = arg n) (e3 : lf' n = lf n) (e4 : rt' n = rt n) (e5 : ∀ t, t < T → co' t = co t) (e6 : ∀ t, t < T → ar' t = ar t) (e7 : ∀ t, t < T → fi' t = fi t) (e8 : ∀ t, t < T → la' t = la t) : rl_N N' T' φ' op' arg' lf' rt' co' ar' fi' la' n := by
  obtain ⟨h1, h2, h3, h4, j, hj, ej, g4, g5⟩ := h
  unfold rl_N
  rw [hφ n hn, e1, e2, e3, e4, e5 _ h1, e6 _ h1, e7 _ h1, e8 _ h1]
  refine ⟨by omega, h2, h3, h4, j, hj, ej, fun z => ?_, fun z => ?_⟩
  · obtain ⟨m, hm, em, ef⟩ := g4 z
    exact ⟨m, by omega, em, by rw [hφ m hm]; exact ef⟩
  · obtain ⟨m, hm, em, ef⟩ := g5 z
    exact ⟨m, by omega, em, by rw [hφ m hm]; exact ef⟩
theorem rl_T_map {T' : Nat} {co' ar' fi' la' : Nat → Int32} {t : Nat} (h : rl_T T co ar fi la t) (hT : T ≤ T') (e5 : co' t = co t) (e6 : ar' t = ar t) (e7 : fi' t = fi t) (e8 : la' t = la t) : rl_T T' co' ar' fi' la' t := by
  obtain ⟨⟨j, hj, ej, g4, g5⟩, ha⟩ := h
  unfold rl_T
  rw [e5, e6, e7, e8]
  refine ⟨⟨j, hj, ej, fun z => ?_, fun z => ?_⟩, ha⟩
  · obtain ⟨m, hm, em⟩ := g4 z
    exact ⟨m, by omega, em⟩
  · obtain ⟨m, hm, em⟩ := g5 z
    exact ⟨m, by omega, em⟩
theorem rl_def {b : Nat} (G : rl_G T N H ln φ op arg lf rt sx rn co ar fi la sy ru) (hT : T < 40) (hH : 1 ≤ H) (hb : b < 4) : rl_G (T + 1) N (H - 1) ln φ op arg lf rt sx (upd rn b (sx (H - 1))) (upd co T 10) (upd ar T (nI b)) fi (upd la T (sy (H - 1))) sy (upd ru b (sy (H - 1))) := by
  obtain ⟨hT', hN, hHN, hl, hn, ht, hla, hs, hru⟩ := G
  obtain ⟨m0, hm0, ex0, ey0⟩ := hs (H - 1) (by omega)
  have hφ0 := (hn m0 hm0).1
  refine ⟨by omega, by omega, by omega, hl, fun n h => ?_, fun t h => ?_, fun t h => ?_, fun j h => hs j (by omega), fun r h => ?_⟩
  · exact rl_N_map (hn n h) (Nat.le_refl _) (by omega) (fun _ _ => rfl) h rfl rfl rfl rfl (fun t z => pk_un (by omega)) (fun t z => pk_un (by omega)) (fun t z => rfl) (fun t z => pk_un (by omega))
  · by_cases e : t = T
    · subst e
      refine ⟨⟨10, by omega, by rw [pk_us]; rfl, fun _ => ⟨φ m0, by omega, by rw [pk_us]; exact ey0⟩, fun z => by omega⟩, ⟨b, hb, pk_us⟩⟩
    · exact rl_T_map (ht t (by omega)) (by omega) (pk_un e) (pk_un e) rfl (pk_un e)
  · by_cases e : t = T
    · subst e
      exact ⟨φ m0, by omega, by rw [pk_us]; exact ey0⟩
    · rw [pk_un e]; exact hla t h
  · by_cases e : r = b
    · subst e
      exact Or.inr ⟨m0, hm0, by rw [pk_us]; exact ex0, by rw [pk_us]; exact ey0⟩
    · rw [pk_un e, pk_un e]; exact hru r h
theorem rl_new {j b z : Nat} {l r : Int32} {fi' la' : Nat → Int32} (G : rl_G T N H ln φ op arg lf rt sx rn co ar fi la sy ru) (hT : T < 40) (hj : j < 10) (hb : b < 4) (hz : z ≤ H) (hfi : ∀ t, t < T → fi' t = fi t) (hla' : ∀ t, t < T → la' t = la t) (hla40 : ∀ t, t < 40 → ∃ m, m < 40 ∧ la' t = nI m) (hL : 4 ≤ j → ∃ m, m < N ∧ l = nI m ∧ (if j = 4 ∨ j = 5 then fi' T else la' T) = nI (φ m)) (hR : j = 4 ∨ j = 5 → ∃ m, m < N ∧ r = nI m ∧ la' T = nI (φ m)) : rl_G (T + 1) (N + 1) (H - z + 1) ln (fun m => if m = N then T else φ m) (upd op N (nI j)) (upd arg N (nI b)) (upd lf N l) (upd rt N r) (upd sx (H - z) (nI N)) rn (upd co T (nI j)) (upd ar T (nI b)) fi' la' (upd sy (H - z) (nI T)) ru := by
  obtain ⟨hT', hN, hHN, hl, hn, ht, hla, hs, hru⟩ := G
  have hφ : ∀ m, m < N → (fun m => if m = N then T else φ m) m = φ m := fun m h => if_neg (by omega)
  have hφN : (fun m => if m = N then T else φ m) N = T := if_pos rfl
  generalize (fun m => if m = N then T else φ m) = ψ at hφ hφN
  refine ⟨by omega, by omega, by omega, hl, fun n h => ?_, fun t h => ?_, hla40, fun k h => ?_, fun k h => ?_⟩
  · by_cases e : n = N
    · subst e
      unfold rl_N
      rw [hφN, pk_us, pk_us, pk_us, pk_us, pk_us, pk_us]
      refine ⟨by omega, rfl, rfl, ⟨b, hb, rfl⟩, j, hj, rfl, fun y => ?_, fun y => ?_⟩
      · obtain ⟨m, hm, em, ef⟩ := hL y
        exact ⟨m, by omega, em, by rw [hφ m hm]; exact ef⟩
      · obtain ⟨m, hm, em, ef⟩ := hR y
        exact ⟨m, by omega, em, by rw [hφ m hm]; exact ef⟩
    · exact rl_N_map (hn n (by omega)) (by omega) (by omega) hφ (by omega) (pk_un e) (pk_un e) (pk_un e) (pk_un e) (fun t z => pk_un (by omega)) (fun t z => pk_un (by omega)) hfi hla'
  · by_cases e : t = T
    · subst e
      refine ⟨⟨j, by omega, pk_us, fun y => ?_, fun y => ?_⟩, ⟨b, hb, pk_us⟩⟩
      · by_cases y5 : j = 4 ∨ j = 5
        · obtain ⟨m, hm, em, ef⟩ := hR y5
          have := (hn m hm).1
          exact ⟨φ m, by omega, ef⟩
        · obtain ⟨m, hm, em, ef⟩ := hL y
          rw [if_neg y5] at ef
          have := (hn m hm).1
          exact ⟨φ m, by omega, ef⟩
      · obtain ⟨m, hm, em, ef⟩ := hL (by omega)
        rw [if_pos y] at ef
        have := (hn m hm).1
        exact ⟨φ m, by omega, ef⟩
    · exact rl_T_map (ht t (by omega)) (by omega) (pk_un e) (pk_un e) (hfi t (by omega)) (hla' t (by omega))
  · by_cases e : k = H - z
    · subst e
      exact ⟨N, by omega, pk_us, by rw [pk_us, hφN]⟩
    · obtain ⟨m, hm, em, ef⟩ := hs k (by omega)
      exact ⟨m, by omega, by rw [pk_un e]; exact em, by rw [pk_un e, hφ m hm]; exact ef⟩
  · rcases hru k h with y | ⟨m, hm, em, ef⟩
    · exact Or.inl y
    · exact Or.inr ⟨m, by omega, em, by rw [hφ m hm]; exact ef⟩
/-- a new node leaves the memo as it is -/
theorem rl_Z_new {c a l r : Int32} (h : px_Z (px_D op arg lf rt rn tx ln) ln N oc) (W : px_W op arg lf rt rn N) (W' : px_W (upd op N c) (upd arg N a) (upd lf N l) (upd rt N r) rn (N + 1)) (hN : N < 40) (hl : ln ≤ 20) : px_Z (px_D (upd op N c) (upd arg N a) (upd lf N l) (upd rt N r) rn tx ln) ln (N + 1) oc := by
  have key : ∀ n p, n < N → p ≤ ln → pg_L (px_D (upd op N c) (upd arg N a) (upd lf N l) (upd rt N r) rn tx ln) ln (N + 1) (21 * n + p) = pg_L (px_D op arg lf rt rn tx ln) ln N (21 * n + p) := by
    refine pg_sim (φ := fun n => n) (px_pW W (by omega) hl) (px_pW W' (by omega) hl) (fun n h => by omega) (fun n p h hp => ?_) (fun n h => pk_un (by omega)) (fun n p h hp _ => ?_) (fun n p h hp _ _ => ?_)
    · show pg_base (upd op N c) (upd arg N a) rn tx ln n p = pg_base op arg rn tx ln n p
      unfold pg_base
      rw [pk_un (by omega), pk_un (by omega)]
    · show (if upd op N c n = 3 then (rn (upd arg N a n).toNatClampNeg).toNatClampNeg else (upd lf N l n).toNatClampNeg) = (if op n = 3 then (rn (arg n).toNatClampNeg).toNatClampNeg else (lf n).toNatClampNeg)
      rw [pk_un (by omega), pk_un (by omega), pk_un (by omega)]
    · show (if upd op N c n = 6 then n else (upd rt N r n).toNatClampNeg) = (if op n = 6 then n else (rt n).toNatClampNeg)
      rw [pk_un (by omega), pk_un (by omega)]
  intro i hi
  rcases h i hi with z | ⟨h1, h2, h3⟩
  · exact Or.inl z
  · refine Or.inr ⟨by omega, h2, ?_⟩
    have k := key (i / 21) (i % 21) h1 h2
    have e : 21 * (i / 21) + i % 21 = i := by omega
    rw [e] at k
    rw [k]; exact h3
end
theorem px_Z_0 {D : PgD} {ln N : Nat} {oc : Nat → Int32} (h : ∀ i, i < 840 → oc i = -3) : px_Z D ln N oc := fun i hi => Or.inl (h i hi)
def i_Rel (k : Nat) (u : SX) (v : SY) : Prop := match u, v with
  | (fT, fN, fH, fL, _, op, arg, lf, rt, sx, rn, tx, oc, _, _, _), (gT, gH, gL, co, ar, fi, la, sy, ru, ty, _) =>
    ∃ (T N H ln : Nat) (φ : Nat → Nat), fT = nI T ∧ fN = nI N ∧ fH = nI H ∧ fL = nI ln ∧ gT = nI T ∧ gH = nI H ∧ gL = nI ln ∧ ty = tx ∧ rl_G T N H ln φ op arg lf rt sx rn co ar fi la sy ru ∧ px_Z (px_D op arg lf rt rn tx ln) ln N oc
theorem i_up {k : Nat} {u : SX} {v : SY} (h : i_Rel k u v) : i_Rel (k + 3) u v := h
theorem rl_mk {k T N H ln : Nat} {φ : Nat → Nat} {fD : Int32} {op arg lf rt sx rn tx oc wt sg tk co ar fi la sy ru oo : Nat → Int32} (G : rl_G T N H ln φ op arg lf rt sx rn co ar fi la sy ru) (Z : px_Z (px_D op arg lf rt rn tx ln) ln N oc) : i_Rel k (nI T, nI N, nI H, nI ln, fD, op, arg, lf, rt, sx, rn, tx, oc, wt, sg, tk) (nI T, nI H, nI ln, co, ar, fi, la, sy, ru, tx, oo) :=
  ⟨T, N, H, ln, φ, rfl, rfl, rfl, rfl, rfl, rfl, rfl, rfl, G, Z⟩
theorem rl_el {k : Nat} {u : SX} {v : SY} {P : SX → SY → Prop} (h : ∀ (T N H ln : Nat) (φ : Nat → Nat) (fD : Int32) (op arg lf rt sx rn tx oc wt sg tk co ar fi la sy ru oo : Nat → Int32), rl_G T N H ln φ op arg lf rt sx rn co ar fi la sy ru → px_Z (px_D op arg lf rt rn tx ln) ln N oc → P (nI T, nI N, nI H, nI ln, fD, op, arg, lf, rt, sx, rn, tx, oc, wt, sg, tk) (nI T, nI H, nI ln, co, ar, fi, la, sy, ru, tx, oo)) (I : i_Rel k u v) : P u v := by
  obtain ⟨fT, fN, fH, fL, fD, op, arg, lf, rt, sx, rn, tx, oc, wt, sg, tk⟩ := u
  obtain ⟨gT, gH, gL, co, ar, fi, la, sy, ru, ty, oo⟩ := v
  obtain ⟨T, N, H, ln, φ, e1, e2, e3, e4, e5, e6, e7, e8, G, Z⟩ := I
  subst e1 e2 e3 e4 e5 e6 e7 e8
  exact h T N H ln φ fD op arg lf rt sx rn _ oc wt sg tk co ar fi la sy ru oo G Z
end
section
/-! forget, clear, the constructors, type, erase -/
section
variable {fT fN fH fL fD : Int32} {op arg lf rt st rn tx oc wt sg tk : Nat → Int32}
theorem rx_forget_2 {post : SX → Prop} (K : ∀ oc' : Nat → Int32, (∀ i, i < 840 → oc' i = -3) → post (fT, fN, fH, fL, fD, op, arg, lf, rt, st, rn, tx, oc', wt, sg, tk)) : ∀ (d n i : Nat) (oc : Nat → Int32), i + d = 840 → d < n → (∀ j, j < i → oc j = -3) → wX_forget_2 post fT fN fH fL fD n (nI i) op arg lf rt st rn tx oc wt sg tk := by
  intro d
  induction d with
  | zero =>
    intro n i o hi hn ho
    obtain ⟨n, rfl⟩ : ∃ m, n = m + 1 := ⟨n - 1, by omega⟩
    exact br_t (nI_le (a := 840) (by omega) (by omega)) (K o (fun j hj => ho j (by omega)))
  | succ d ih =>
    intro n i o hi hn ho
    obtain ⟨n, rfl⟩ : ∃ m, n = m + 1 := ⟨n - 1, by omega⟩
    refine br_f (nI_ge (b := 840) (by omega) (by decide)) ⟨vp_in_nI (by omega) (by decide), ?_⟩
    rw [nI_clamp (n := i) (by omega)]
    refine nm_e (nm_r (nI_1 i) (ih n (i + 1) _ (by omega) (by omega) fun j hj => ?_))
    by_cases e : j = i
    · rw [e, pk_us]
    · rw [pk_un e]; exact ho j (by omega)
theorem rx_forget {post : SX → Prop} (K : ∀ oc' : Nat → Int32, (∀ i, i < 840 → oc' i = -3) → post (fT, fN, fH, fL, fD, op, arg, lf, rt, st, rn, tx, oc', wt, sg, tk)) : wpX_forget post (fT, fN, fH, fL, fD, op, arg, lf, rt, st, rn, tx, oc, wt, sg, tk) := by
  unfold wpX_forget
  dsimp only
  exact ⟨841, rx_forget_2 K 840 841 0 oc (by omega) (by omega) (fun j hj => absurd hj (Nat.not_lt_zero j))⟩
theorem rx_clear_17 {post : SX → Prop} (K : ∀ rn' oc' : Nat → Int32, (∀ r, r < 4 → rn' r = -1) → (∀ i, i < 840 → oc' i = -3) → post (fT, fN, fH, fL, fD, op, arg, lf, rt, st, rn', tx, oc', wt, sg, tk)) : ∀ (d n i : Nat) (rn : Nat → Int32), i + d = 4 → d < n → (∀ j, j < i → rn j = -1) → wX_clear_17 post fT fN fH fL fD n (nI i) op arg lf rt st rn tx oc wt sg tk := by
  intro d
  induction d with
  | zero =>
    intro n i o hi hn ho
    obtain ⟨n, rfl⟩ : ∃ m, n = m + 1 := ⟨n - 1, by omega⟩
    exact br_t (nI_le (a := 4) (by omega) (by omega)) (rx_forget fun oc' h => K o oc' (fun j hj => ho j (by omega)) h)
  | succ d ih =>
    intro n i o hi hn ho
    obtain ⟨n, rfl⟩ : ∃ m, n = m + 1 := ⟨n - 1, by omega⟩
    refine br_f (nI_ge (b := 4) (by omega) (by decide)) ⟨vp_in_nI (by omega) (by decide), ?_⟩
    rw [nI_clamp (n := i) (by omega)]
    refine nm_e (nm_r (nI_1 i) (ih n (i + 1) _ (by omega) (by omega) fun j hj => ?_))
    by_cases e : j = i
    · rw [e, pk_us]
    · rw [pk_un e]; exact ho j (by omega)
theorem rx_clear {post : SX → Prop} (K : ∀ rn' oc' : Nat → Int32, (∀ r, r < 4 → rn' r = -1) → (∀ i, i < 840 → oc' i = -3) → post (0, 0, 0, fL, fD, op, arg, lf, rt, st, rn', tx, oc', wt, sg, tk)) : wpX_clear post (fT, fN, fH, fL, fD, op, arg, lf, rt, st, rn, tx, oc, wt, sg, tk) := by
  unfold wpX_clear
  dsimp only
  exact ⟨5, rx_clear_17 K 4 5 0 rn (by omega) (by omega) (fun j hj => absurd hj (Nat.not_lt_zero j))⟩
end
section
variable {gT gH gL : Int32} {co ar fi la st ru tx oo : Nat → Int32}
theorem ry_clear_12 {post : SY → Prop} (K : ∀ ru' : Nat → Int32, (∀ r, r < 4 → ru' r = -1) → post (gT, gH, gL, co, ar, fi, la, st, ru', tx, oo)) : ∀ (d n i : Nat) (ru : Nat → Int32), i + d = 4 → d < n → (∀ j, j < i → ru j = -1) → wY_clear_12 post gT gH gL n (nI i) co ar fi la st ru tx oo := by
  intro d
  induction d with
  | zero =>
    intro n i o hi hn ho
    obtain ⟨n, rfl⟩ : ∃ m, n = m + 1 := ⟨n - 1, by omega⟩
    exact br_t (nI_le (a := 4) (by omega) (by omega)) (K o (fun j hj => ho j (by omega)))
  | succ d ih =>
    intro n i o hi hn ho
    obtain ⟨n, rfl⟩ : ∃ m, n = m + 1 := ⟨n - 1, by omega⟩
    refine br_f (nI_ge (b := 4) (by omega) (by decide)) ⟨vp_in_nI (by omega) (by decide), ?_⟩
    rw [nI_clamp (n := i) (by omega)]
    refine nm_e (nm_r (nI_1 i) (ih n (i + 1) _ (by omega) (by omega) fun j hj => ?_))
    by_cases e : j = i
    · rw [e, pk_us]
    · rw [pk_un e]; exact ho j (by omega)
theorem ry_clear {post : SY → Prop} (K : ∀ ru' : Nat → Int32, (∀ r, r < 4 → ru' r = -1) → post (0, 0, gL, co, ar, fi, la, st, ru', tx, oo)) : wpY_clear post (gT, gH, gL, co, ar, fi, la, st, ru, tx, oo) := by
  unfold wpY_clear
  dsimp only
  exact ⟨5, ry_clear_12 K 4 5 0 ru (by omega) (by omega) (fun j hj => absurd hj (Nat.not_lt_zero j))⟩
theorem ry_init_70 {post : SY → Prop} (K : ∀ ru' : Nat → Int32, (∀ r, r < 4 → ru' r = -1) → post (gT, gH, gL, co, ar, fi, la, st, ru', tx, oo)) : ∀ (d n i : Nat) (ru : Nat → Int32), i + d = 4 → d < n → (∀ j, j < i → ru j = -1) → wY_init_70 post gT gH gL n (nI i) co ar fi la st ru tx oo := by
  intro d
  induction d with
  | zero =>
    intro n i o hi hn ho
    obtain ⟨n, rfl⟩ : ∃ m, n = m + 1 := ⟨n - 1, by omega⟩
    exact br_t (nI_le (a := 4) (by omega) (by omega)) (K o (fun j hj => ho j (by omega)))
  | succ d ih =>
    intro n i o hi hn ho
    obtain ⟨n, rfl⟩ : ∃ m, n = m + 1 := ⟨n - 1, by omega⟩
    refine br_f (nI_ge (b := 4) (by omega) (by decide)) ⟨vp_in_nI (by omega) (by decide), ?_⟩
    rw [nI_clamp (n := i) (by omega)]
    refine nm_e (nm_r (nI_1 i) (ih n (i + 1) _ (by omega) (by omega) fun j hj => ?_))
    by_cases e : j = i
    · rw [e, pk_us]
    · rw [pk_un e]; exact ho j (by omega)
end
section
variable {T N H ln : Nat} {φ : Nat → Nat} {op arg lf rt sx rn tx co ar fi la sy ru oc : Nat → Int32}
theorem rl_G_0 (hl : ln ≤ 20) (hla : ∀ t, t < 40 → ∃ m, m < 40 ∧ la t = nI m) (h1 : ∀ r, r < 4 → rn r = -1) (h2 : ∀ r, r < 4 → ru r = -1) : rl_G 0 0 0 ln φ op arg lf rt sx rn co ar fi la sy ru :=
  ⟨by omega, by omega, by omega, hl, fun n h => absurd h (Nat.not_lt_zero n), fun n h => absurd h (Nat.not_lt_zero n), hla, fun n h => absurd h (Nat.not_lt_zero n), fun r h => Or.inl ⟨h1 r h, h2 r h⟩⟩
theorem rl_G_ln {ln' : Nat} (G : rl_G T N H ln φ op arg lf rt sx rn co ar fi la sy ru) (hl : ln' ≤ 20) : rl_G T N H ln' φ op arg lf rt sx rn co ar fi la sy ru := by
  obtain ⟨h1, h2, h3, _, h5, h6, h7, h8, h9⟩ := G
  exact ⟨h1, h2, h3, hl, h5, h6, h7, h8, h9⟩
end
theorem i_vc0 : wpX_init (fun u => wpY_init (fun v => i_Rel 0 u v)) := by
  unfold wpX_init
  refine rx_clear ?_
  intro rn' oc' h1 h2
  show wpY_init _
  unfold wpY_init
  refine ⟨5, ry_init_70 ?_ 4 5 0 _ (by omega) (by omega) (fun j hj => absurd hj (Nat.not_lt_zero j))⟩
  intro ru' h3
  exact rl_mk (T := 0) (N := 0) (H := 0) (ln := 0) (φ := fun n => n) (rl_G_0 (by omega) (fun t _ => ⟨0, by omega, rfl⟩) h1 h3) (px_Z_0 h2)
theorem i_vc_clear {k : Nat} {u : SX} {v : SY} (I : i_Rel k u v) (hk : k + 3 ≤ 1536) : wpX_clear (fun u' => wpY_clear (fun v' => i_Rel (k + 3) u' v') v) u := by
  refine rl_el (P := fun u v => wpX_clear (fun u' => wpY_clear (fun v' => i_Rel (k + 3) u' v') v) u) ?_ I
  intro T N H ln φ fD op arg lf rt sx rn tx oc wt sg tk co ar fi la sy ru oo G Z
  refine rx_clear fun rn' oc' h1 h2 => ry_clear fun ru' h3 => ?_
  exact rl_mk (T := 0) (N := 0) (H := 0) (ln := ln) (φ := φ) (rl_G_0 G.2.2.2.1 G.2.2.2.2.2.2.1 h1 h3) (px_Z_0 h2)
theorem i_vc_type {k : Nat} {u : SX} {v : SY} (I : i_Rel k u v) (hk : k + 3 ≤ 1536) (v1 : Int32) : wpX_type (fun r u' => wpY_type (fun r' v' => r' = r ∧ i_Rel (k + 3) u' v') v v1) u v1 := by
  refine rl_el (P := fun u v => wpX_type (fun r u' => wpY_type (fun r' v' => r' = r ∧ i_Rel (k + 3) u' v') v v1) u v1) ?_ I
  intro T N H ln φ fD op arg lf rt sx rn tx oc wt sg tk co ar fi la sy ru oo G Z
  have hl := G.2.2.2.1
  unfold wpX_type
  dsimp only
  rw [nI_clamp (n := ln) (by omega)]
  by_cases c : ln < 20
  · have hv : vp_in (nI ln) 20 := vp_in_nI c (by decide)
    refine br_t (nI_lt (b := 20) c (by decide)) ⟨hv, nm_e (nm_r (nI_1 ln) (rx_forget fun oc' h => ?_))⟩
    show wpY_type _ _ _
    unfold wpY_type
    dsimp only
    rw [nI_clamp (n := ln) (by omega)]
    refine br_f (fun e => absurd ((nI_eq (b := 20) (by omega) (by decide)).mp e) (by omega)) ⟨hv, nm_e (nm_r (nI_1 ln) ⟨rfl, ?_⟩)⟩
    exact rl_mk (rl_G_ln G (by omega)) (px_Z_0 h)
  · have e : ln = 20 := by omega
    subst e
    refine br_f (by decide) ?_
    show wpY_type _ _ _
    unfold wpY_type
    dsimp only
    exact br_t rfl ⟨rfl, rl_mk G Z⟩
theorem i_vc_erase {k : Nat} {u : SX} {v : SY} (I : i_Rel k u v) (hk : k + 3 ≤ 1536) : wpX_erase (fun u' => wpY_erase (fun v' => i_Rel (k + 3) u' v') v) u := by
  refine rl_el (P := fun u v => wpX_erase (fun u' => wpY_erase (fun v' => i_Rel (k + 3) u' v') v) u) ?_ I
  intro T N H ln φ fD op arg lf rt sx rn tx oc wt sg tk co ar fi la sy ru oo G Z
  unfold wpX_erase
  dsimp only
  refine rx_forget fun oc' h => ?_
  show wpY_erase _ _
  unfold wpY_erase
  dsimp only
  exact rl_mk (ln := 0) (rl_G_ln G (by omega)) (px_Z_0 h)
end
section
/-! token -/
def rl_z (j : Nat) : Nat := if j ≤ 3 then 0 else if j ≤ 5 then 2 else 1
theorem rl_z_le (j : Nat) : rl_z j ≤ 2 := by unfold rl_z; split; omega; split <;> omega
section
variable {T N H : Nat} {fT fN fH fL fD v2 : Int32} {op arg lf rt sx rn tx oc wt sg tk : Nat → Int32}
theorem rx_tok0 {post : Int32 → SX → Prop} {j : Nat} (hj : j ≤ 10) (h : wX_token_19 post (nI j) v2 (nI (rl_z j)) fT fN fH fL fD op arg lf rt sx rn tx oc wt sg tk) : wpX_token post (fT, fN, fH, fL, fD, op, arg, lf, rt, sx, rn, tx, oc, wt, sg, tk) (nI j) v2 := by
  unfold wpX_token
  dsimp only
  unfold rl_z at h
  by_cases c3 : 3 < j
  · refine br_t (nI_lt (a := 3) c3 (by omega)) ?_
    rw [if_neg (by omega)] at h
    by_cases c5 : 5 < j
    · rw [if_neg (by omega)] at h
      exact br_t (nI_lt (a := 5) c5 (by omega)) h
    · rw [if_pos (by omega)] at h
      exact br_f (nI_nlt (a := 5) (by omega) (by decide)) h
  · rw [if_pos (by omega)] at h
    exact br_f (nI_nlt (a := 3) (by omega) (by decide)) h
theorem rx_new {post : Int32 → SX → Prop} {j z : Nat} (hj : j < 10) (hz : z ≤ H) (hz2 : z ≤ 2) (hH : H ≤ N) (hN : N < 40) (hT : T < 40) (h : post (nI (H - z + 1)) (nI (T + 1), nI (N + 1), nI (H - z + 1), fL, fD, upd op N (nI j), upd arg N (v2 &&& 3), upd lf N (if z = 0 then -1 else sx (H - z)), upd rt N (if z = 2 then sx (H - 1) else -1), upd sx (H - z) (nI N), rn, tx, oc, wt, sg, tk)) : wX_token_19 post (nI j) v2 (nI z) (nI T) (nI N) (nI H) fL fD op arg lf rt sx rn tx oc wt sg tk := by
  have hn40 : vp_in (nI N) 40 := vp_in_nI hN (by decide)
  have eN : (nI N).toNatClampNeg = N := nI_clamp (by omega)
  have k179 : ∀ r l : Int32, r = (if z = 2 then sx (H - 1) else -1) → l = (if z = 0 then -1 else sx (H - z)) → wX_token_179 post (nI z) r (nI N) (nI (T + 1)) (nI N) (nI H) fL fD (upd op N (nI j)) (upd arg N (v2 &&& 3)) (upd lf N l) rt sx rn tx oc wt sg tk := by
    intro r l er el
    subst er el
    unfold wX_token_179
    rw [eN]
    refine ⟨hn40, nm_e (nm_r (pk_sub hz) ⟨vp_in_nI (by omega) (by decide), ?_⟩)⟩
    rw [nI_clamp (n := H - z) (by omega)]
    exact nm_e (nm_r (nI_1 _) (nm_r (nI_1 _) h))
  have k150 : ∀ l : Int32, l = (if z = 0 then -1 else sx (H - z)) → wX_token_150 post (nI z) l (nI N) (nI (T + 1)) (nI N) (nI H) fL fD (upd op N (nI j)) (upd arg N (v2 &&& 3)) lf rt sx rn tx oc wt sg tk := by
    intro l el
    unfold wX_token_150
    rw [eN]
    refine ⟨hn40, nm_e ?_⟩
    by_cases c : z = 2
    · have e1 : nI H - 1 = nI (H - 1) := pk_sub (b := 1) (by omega)
      rw [e1, nI_clamp (n := H - 1) (by omega)]
      refine br_t (by rw [c]; rfl) ⟨vp_in_nI (by omega) (by decide), k179 _ l ?_ el⟩
      rw [if_pos c]
    · refine br_f (fun e => c ((nI_eq (b := 2) (by omega) (by decide)).mp e)) (k179 _ l ?_ el)
      rw [if_neg c]
  unfold wX_token_19
  rw [eN]
  refine br_f (nI_pos (by omega)) (br_f (nI_nlt (a := 10) (by omega) (by decide)) (br_f (nI_nlt hz (by omega)) (br_t (nI_lt (b := 40) hT (by decide)) (nm_r (nI_1 T) (br_f ?_ ⟨hn40, nm_e ⟨hn40, nm_e ?_⟩⟩)))))
  · exact fun e => absurd ((nI_eq (b := 10) (by omega) (by decide)).mp e) (by omega)
  · by_cases c : z = 0
    · refine br_t (by rw [c]; decide) (k150 _ ?_)
      rw [if_pos c]
    · rw [pk_sub hz, nI_clamp (n := H - z) (by omega)]
      refine br_f (nI_nle (by omega) (by omega)) ⟨vp_in_nI (by omega) (by decide), k150 _ ?_⟩
      rw [if_neg c]
theorem rx_def {post : Int32 → SX → Prop} {b : Nat} (hH : 1 ≤ H) (hH2 : H ≤ 40) (hT : T < 40) (hb : b < 4) (eb : v2 &&& 3 = nI b) (h : ∀ oc' : Nat → Int32, (∀ i, i < 840 → oc' i = -3) → post (nI (H - 1)) (nI (T + 1), fN, nI (H - 1), fL, fD, op, arg, lf, rt, sx, upd rn b (sx (H - 1)), tx, oc', wt, sg, tk)) : wX_token_19 post (nI 10) v2 (nI 1) (nI T) fN (nI H) fL fD op arg lf rt sx rn tx oc wt sg tk := by
  unfold wX_token_19
  rw [eb, nI_clamp (n := b) (by omega)]
  refine br_f (by decide) (br_f (by decide) (br_f (nI_nlt hH (by omega)) (br_t (nI_lt (b := 40) hT (by decide)) (nm_r (nI_1 T) (br_t rfl (nm_r (e' := nI (H - 1)) (pk_sub (b := 1) hH) ⟨vp_in_nI (by omega) (by decide), vp_in_nI hb (by decide), ?_⟩))))))
  rw [nI_clamp (n := H - 1) (by omega)]
  exact nm_e (rx_forget fun oc' z => h oc' z)
end
section
variable {T H : Nat} {gT gH gL v2 : Int32} {co ar fi la sy ru tx oo : Nat → Int32}
theorem ry_takes {post : Int32 → Prop} {j : Nat} (hj : j ≤ 10) (h : post (nI (rl_z j))) : wpY_takes post (nI j) := by
  unfold wpY_takes
  unfold rl_z at h
  by_cases c3 : 3 < j
  · refine br_t (nI_lt (a := 3) c3 (by omega)) ?_
    rw [if_neg (by omega)] at h
    by_cases c5 : 5 < j
    · rw [if_neg (by omega)] at h
      exact br_t (nI_lt (a := 5) c5 (by omega)) h
    · rw [if_pos (by omega)] at h
      exact br_f (nI_nlt (a := 5) (by omega) (by decide)) h
  · rw [if_pos (by omega)] at h
    exact br_f (nI_nlt (a := 3) (by omega) (by decide)) h
theorem ry_109n {post : Int32 → SY → Prop} {j : Nat} (hj : j < 10) (hz : rl_z j ≤ H) (hH : H - rl_z j < 40) (hT : T < 40) (h : post (nI (H - rl_z j + 1)) (nI (T + 1), nI (H - rl_z j + 1), gL, co, ar, fi, la, upd sy (H - rl_z j) (nI T), ru, tx, oo)) : wY_token_109 post (nI j) v2 (nI T) (nI H) gL co ar fi la sy ru tx oo := by
  have h2 := rl_z_le j
  unfold wY_token_109
  refine ry_takes (by omega) (nm_r (pk_sub hz) (br_f ?_ ⟨vp_in_nI hH (by decide), ?_⟩))
  · exact fun e => absurd ((nI_eq (b := 10) (by omega) (by decide)).mp e) (by omega)
  · rw [nI_clamp (n := H - rl_z j) (by omega)]
    exact nm_e (nm_r (nI_1 _) (nm_r (nI_1 T) h))
theorem ry_109d {post : Int32 → SY → Prop} {b : Nat} (hH : 1 ≤ H) (hT : T < 40) (hb : b < 4) (eb : v2 &&& 3 = nI b) (h : post (nI (H - 1)) (nI (T + 1), nI (H - 1), gL, co, ar, fi, la, sy, upd ru b (la T), tx, oo)) : wY_token_109 post (nI 10) v2 (nI T) (nI H) gL co ar fi la sy ru tx oo := by
  unfold wY_token_109
  rw [eb, nI_clamp (n := b) (by omega), nI_clamp (n := T) (by omega)]
  refine ry_takes (by omega) (nm_r (e' := nI (H - 1)) (pk_sub (b := 1) hH) (br_t rfl ⟨vp_in_nI hT (by decide), vp_in_nI hb (by decide), nm_e ?_⟩))
  exact nm_r (nI_1 T) h
theorem ry_81 {post : Int32 → SY → Prop} {j : Nat} (hj : j ≤ 10) (hz : rl_z j ≤ H) (hH : H ≤ 40) (hT : T < 40) (h : wY_token_109 post (nI j) v2 (nI T) (nI H) gL co ar (if rl_z j = 2 then upd fi T (sy (H - 2)) else fi) la sy ru tx oo) : wY_token_81 post (nI j) v2 (nI T) (nI H) gL co ar fi la sy ru tx oo := by
  have h2 := rl_z_le j
  unfold wY_token_81
  refine ry_takes hj ?_
  by_cases c : rl_z j = 2
  · rw [if_pos c] at h
    have e2 : nI H - 2 = nI (H - 2) := pk_sub (b := 2) (by omega)
    rw [e2, nI_clamp (n := H - 2) (by omega), nI_clamp (n := T) (by omega)]
    exact br_t (by rw [c]; rfl) ⟨vp_in_nI (by omega) (by decide), vp_in_nI hT (by decide), nm_e h⟩
  · rw [if_neg c] at h
    exact br_f (fun e => c ((nI_eq (b := 2) (by omega) (by decide)).mp e)) h
theorem ry_tok {post : Int32 → SY → Prop} {j : Nat} (hj : j ≤ 10) (hz : rl_z j ≤ H) (hH : H ≤ 40) (hT : T < 40) (h : wY_token_109 post (nI j) v2 (nI T) (nI H) gL (upd co T (nI j)) (upd ar T (v2 &&& 3)) (if rl_z j = 2 then upd fi T (sy (H - 2)) else fi) (if rl_z j = 0 then la else upd la T (sy (H - 1))) sy ru tx oo) : wpY_token post (nI T, nI H, gL, co, ar, fi, la, sy, ru, tx, oo) (nI j) v2 := by
  have h2 := rl_z_le j
  have hTT : vp_in (nI T) 40 := vp_in_nI hT (by decide)
  unfold wpY_token
  dsimp only
  rw [nI_clamp (n := T) (by omega)]
  refine br_f (nI_pos (by omega)) (br_f (nI_nlt (a := 10) (by omega) (by decide)) (ry_takes hj (br_f (nI_nlt hz (by omega)) (br_f ?_ ⟨hTT, nm_e ⟨hTT, nm_e (ry_takes hj ?_)⟩⟩))))
  · exact fun e => absurd ((nI_eq (b := 40) (by omega) (by decide)).mp e) (by omega)
  · by_cases c : rl_z j = 0
    · rw [if_pos c] at h
      exact br_t (by rw [c]; decide) (ry_81 hj hz hH hT h)
    · rw [if_neg c] at h
      have e1 : nI H - 1 = nI (H - 1) := pk_sub (b := 1) (by omega)
      rw [e1, nI_clamp (n := H - 1) (by omega)]
      exact br_f (nI_nle (by omega) (by omega)) ⟨vp_in_nI (by omega) (by decide), hTT, nm_e (ry_81 hj hz hH hT h)⟩
end
/-- a token that makes a node, on both sides -/
theorem rl_tokN {k T N H ln j : Nat} {φ : Nat → Nat} {fD v2 : Int32} {op arg lf rt sx rn tx oc wt sg tk co ar fi la sy ru oo : Nat → Int32} (G : rl_G T N H ln φ op arg lf rt sx rn co ar fi la sy ru) (Z : px_Z (px_D op arg lf rt rn tx ln) ln N oc) (hT : T < 40) (hj : j < 10) (hz : rl_z j ≤ H) : i_Rel (k + 3) (nI (T + 1), nI (N + 1), nI (H - rl_z j + 1), nI ln, fD, upd op N (nI j), upd arg N (v2 &&& 3), upd lf N (if rl_z j = 0 then -1 else sx (H - rl_z j)), upd rt N (if rl_z j = 2 then sx (H - 1) else -1), upd sx (H - rl_z j) (nI N), rn, tx, oc, wt, sg, tk) (nI (T + 1), nI (H - rl_z j + 1), nI ln, upd co T (nI j), upd ar T (v2 &&& 3), (if rl_z j = 2 then upd fi T (sy (H - 2)) else fi), (if rl_z j = 0 then la else upd la T (sy (H - 1))), upd sy (H - rl_z j) (nI T), ru, tx, oo) := by
  obtain ⟨b, hb, eb⟩ := pk_andE v2 (m := 3) 2 (by decide)
  rw [eb]
  have hs := G.2.2.2.2.2.2.2.1
  have hla := G.2.2.2.2.2.2.1
  have hl := G.2.2.2.1
  have hN := G.2.1
  have hn := G.2.2.2.2.1
  have h2 := rl_z_le j
  have zz : (j ≤ 3 → rl_z j = 0) ∧ (j = 4 ∨ j = 5 → rl_z j = 2) ∧ (6 ≤ j → rl_z j = 1) := by
    unfold rl_z
    refine ⟨fun z => if_pos z, fun z => ?_, fun z => ?_⟩
    · rw [if_neg (by omega), if_pos (by omega)]
    · rw [if_neg (by omega), if_neg (by omega)]
  obtain ⟨z0, z2, z1⟩ := zz
  have G' := rl_new (j := j) (b := b) (z := rl_z j) (l := if rl_z j = 0 then -1 else sx (H - rl_z j)) (r := if rl_z j = 2 then sx (H - 1) else -1) (fi' := if rl_z j = 2 then upd fi T (sy (H - 2)) else fi) (la' := if rl_z j = 0 then la else upd la T (sy (H - 1))) G hT hj hb hz
    (fun t ht => by
      split
      · exact pk_un (by omega)
      · rfl)
    (fun t ht => by
      split
      · rfl
      · exact pk_un (by omega))
    (fun t ht => by
      split
      · exact hla t ht
      · by_cases e : t = T
        · obtain ⟨m, hm, _, ey⟩ := hs (H - 1) (by omega)
          have hφ := (hn m hm).1
          rw [e, pk_us]
          exact ⟨φ m, by omega, ey⟩
        · rw [pk_un e]; exact hla t ht)
    (fun h4 => by
      by_cases c : j = 4 ∨ j = 5
      · have ez := z2 c
        rw [ez] at hz ⊢
        obtain ⟨m, hm, ex, ey⟩ := hs (H - 2) (by omega)
        rw [if_neg (by decide), if_pos c, if_pos rfl, pk_us]
        exact ⟨m, hm, ex, ey⟩
      · have ez := z1 (by omega)
        rw [ez] at hz ⊢
        obtain ⟨m, hm, ex, ey⟩ := hs (H - 1) (by omega)
        rw [if_neg (by decide), if_neg c, if_neg (by decide), pk_us]
        exact ⟨m, hm, ex, ey⟩)
    (fun c => by
      have ez := z2 c
      rw [ez] at hz ⊢
      obtain ⟨m, hm, ex, ey⟩ := hs (H - 1) (by omega)
      rw [if_pos rfl, if_neg (by decide), pk_us]
      exact ⟨m, hm, ex, ey⟩)
  exact rl_mk G' (rl_Z_new Z (rl_xW G) (rl_xW G') (by omega) hl)
theorem i_vc_token {k : Nat} {u : SX} {v : SY} (I : i_Rel k u v) (hk : k + 3 ≤ 1536) (v1 : Int32) (v2 : Int32) : wpX_token (fun r u' => wpY_token (fun r' v' => r' = r ∧ i_Rel (k + 3) u' v') v v1 v2) u v1 v2 := by
  refine rl_el (P := fun u v => wpX_token (fun r u' => wpY_token (fun r' v' => r' = r ∧ i_Rel (k + 3) u' v') v v1 v2) u v1 v2) ?_ I
  intro T N H ln φ fD op arg lf rt sx rn tx oc wt sg tk co ar fi la sy ru oo G Z
  have hT40 := G.1
  have hNT := G.2.1
  have hHN := G.2.2.1
  have hl := G.2.2.2.1
  by_cases c0 : v1 < 0
  · have c3 : ¬ 3 < v1 := fun z => by
      rw [Int32.lt_iff_toInt_lt] at c0 z
      have e0 : (0 : Int32).toInt = 0 := by decide
      have e3 : (3 : Int32).toInt = 3 := by decide
      omega
    unfold wpX_token
    dsimp only
    refine br_f c3 (br_t c0 ?_)
    show wpY_token _ _ _ _
    unfold wpY_token
    dsimp only
    exact br_t c0 ⟨rfl, rl_mk G Z⟩
  · by_cases c10 : 10 < v1
    · have c3 : 3 < v1 := by
        rw [Int32.lt_iff_toInt_lt] at c10 ⊢
        have e0 : (10 : Int32).toInt = 10 := by decide
        have e3 : (3 : Int32).toInt = 3 := by decide
        omega
      have c5 : 5 < v1 := by
        rw [Int32.lt_iff_toInt_lt] at c10 ⊢
        have e0 : (10 : Int32).toInt = 10 := by decide
        have e3 : (5 : Int32).toInt = 5 := by decide
        omega
      unfold wpX_token
      dsimp only
      refine br_t c3 (br_t c5 (br_f c0 (br_t c10 ?_)))
      show wpY_token _ _ _ _
      unfold wpY_token
      dsimp only
      exact br_f c0 (br_t c10 ⟨rfl, rl_mk G Z⟩)
    · obtain ⟨j, hj, rfl⟩ := nI_of2 (M := 10) (n := 10) (by decide) c0 (Int32.not_lt.mp c10)
      have h2 := rl_z_le j
      refine rx_tok0 hj ?_
      by_cases cz : H < rl_z j
      · refine br_f c0 (br_f c10 (br_t (nI_lt cz (by omega)) ?_))
        show wpY_token _ _ _ _
        unfold wpY_token
        dsimp only
        exact br_f c0 (br_f c10 (ry_takes hj (br_t (nI_lt cz (by omega)) ⟨rfl, rl_mk G Z⟩)))
      · by_cases cT : T < 40
        · by_cases cj : j < 10
          · refine rx_new cj (by omega) h2 hHN (by omega) cT ?_
            exact ry_tok hj (by omega) (by omega) cT (ry_109n cj (by omega) (by omega) cT ⟨rfl, rl_tokN G Z cT cj (by omega)⟩)
          · have e : j = 10 := by omega
            subst e
            have ez : rl_z 10 = 1 := rfl
            obtain ⟨b, hb, eb⟩ := pk_andE v2 (m := 3) 2 (by decide)
            refine rx_def (b := b) (by omega) (by omega) cT hb eb fun oc' ho => ?_
            refine ry_tok hj (by omega) (by omega) cT (ry_109d (b := b) (by omega) cT hb eb ⟨rfl, ?_⟩)
            rw [eb, ez, if_neg (by decide), if_neg (by decide), pk_us]
            exact rl_mk (rl_def G cT (by omega) hb) (px_Z_0 ho)
        · have e : T = 40 := by omega
          subst e
          refine br_f c0 (br_f c10 (br_f (nI_nlt (by omega) (by omega)) (br_f (by decide) ?_)))
          show wpY_token _ _ _ _
          unfold wpY_token
          dsimp only
          exact br_f c0 (br_f c10 (ry_takes hj (br_f (nI_nlt (by omega) (by omega)) (br_t rfl ⟨rfl, rl_mk G Z⟩))))
end
section
/-! the questions: match, matches, find, whole, stuck -/
def rl_cm (f : Nat → Int32) : Nat → Nat → Int32 → Int32
  | 0, _, acc => acc
  | d + 1, p, acc => rl_cm f d (p + 1) (if f p < 0 then acc else acc + 1)
def rl_cs (f : Nat → Int32) : Nat → Nat → Int32 → Int32
  | 0, _, acc => acc
  | d + 1, p, acc => rl_cs f d (p + 1) (if f p = -2 then acc + 1 else acc)
def rl_fd (f : Nat → Int32) : Nat → Nat → Int32
  | 0, _ => -1
  | d + 1, p => if f p < 0 then rl_fd f d (p + 1) else nI p
def rl_ff (f : Nat → Int32) (q : Nat) : Nat → Nat → Int32
  | 0, _ => -1
  | d + 1, p => if p < q then rl_ff f q d (p + 1) else if f p < 0 then rl_ff f q d (p + 1) else nI p
theorem rl_ff_a {f : Nat → Int32} {q : Nat} : ∀ d p, q ≤ p → rl_ff f q d p = rl_fd f d p := by
  intro d
  induction d with
  | zero => intro p _; rfl
  | succ d ih =>
    intro p h
    show (if p < q then rl_ff f q d (p + 1) else if f p < 0 then rl_ff f q d (p + 1) else nI p) = (if f p < 0 then rl_fd f d (p + 1) else nI p)
    rw [if_neg (by omega), ih (p + 1) (by omega)]
theorem rl_ff_b {f : Nat → Int32} {q ln : Nat} : ∀ d p, p ≤ q → p + d = ln + 1 → rl_ff f q d p = rl_fd f (ln + 1 - q) q := by
  intro d
  induction d with
  | zero =>
    intro p h e
    have : ln + 1 - q = 0 := by omega
    rw [this]; rfl
  | succ d ih =>
    intro p h e
    by_cases c : p < q
    · show (if p < q then rl_ff f q d (p + 1) else if f p < 0 then rl_ff f q d (p + 1) else nI p) = _
      rw [if_pos c]
      exact ih (p + 1) (by omega) (by omega)
    · have epq : p = q := by omega
      subst epq
      have ed : ln + 1 - p = d + 1 := by omega
      rw [ed]
      exact rl_ff_a (d + 1) p (Nat.le_refl _)
section
variable {fT fN fH : Int32} {ln N : Nat} {op arg lf rt st rn tx : Nat → Int32}
theorem rx_matches {post : Int32 → SX → Prop} {r : Nat} (H : px_W op arg lf rt rn N) (hN : N ≤ 40) (hl : ln ≤ 20) (hr : r < 4) : ∀ (d n p : Nat) (acc fD : Int32) (oc wt sg tk : Nat → Int32), p + d = ln + 1 → d < n → px_Z (px_D op arg lf rt rn tx ln) ln N oc → (∀ (dp' : Int32) (oc' wt' sg' tk' : Nat → Int32), px_Z (px_D op arg lf rt rn tx ln) ln N oc' → post (rl_cm (px_ans op arg lf rt rn tx ln N r) d p acc) (fT, fN, fH, nI ln, dp', op, arg, lf, rt, st, rn, tx, oc', wt', sg', tk')) → wX_matches_16 post (nI r) n acc (nI p) fT fN fH (nI ln) fD op arg lf rt st rn tx oc wt sg tk := by
  intro d
  induction d with
  | zero =>
    intro n p acc fD oc wt sg tk hp hn Z K
    obtain ⟨n, rfl⟩ : ∃ m, n = m + 1 := ⟨n - 1, by omega⟩
    exact br_t (nI_lt (by omega) (by omega)) (K _ _ _ _ _ Z)
  | succ d ih =>
    intro n p acc fD oc wt sg tk hp hn Z K
    obtain ⟨n, rfl⟩ : ∃ m, n = m + 1 := ⟨n - 1, by omega⟩
    refine br_f (nI_nlt (by omega) (by omega)) (px_match H hN hl Z hr (by omega) fun dp' oc' wt' sg' tk' Z' => ?_)
    have K' : ∀ (dp' : Int32) (oc' wt' sg' tk' : Nat → Int32), px_Z (px_D op arg lf rt rn tx ln) ln N oc' → post (rl_cm (px_ans op arg lf rt rn tx ln N r) d (p + 1) (if px_ans op arg lf rt rn tx ln N r p < 0 then acc else acc + 1)) (fT, fN, fH, nI ln, dp', op, arg, lf, rt, st, rn, tx, oc', wt', sg', tk') := K
    by_cases c : px_ans op arg lf rt rn tx ln N r p < 0
    · rw [if_pos c] at K'
      exact br_t c (nm_r (Int32.add_zero acc) (nm_r (nI_1 p) (ih n (p + 1) acc dp' oc' wt' sg' tk' (by omega) (by omega) Z' K')))
    · rw [if_neg c] at K'
      exact br_f c (nm_e (nm_r (nI_1 p) (ih n (p + 1) (acc + 1) dp' oc' wt' sg' tk' (by omega) (by omega) Z' K')))
theorem rx_stuck {post : Int32 → SX → Prop} {r : Nat} (H : px_W op arg lf rt rn N) (hN : N ≤ 40) (hl : ln ≤ 20) (hr : r < 4) : ∀ (d n p : Nat) (acc fD : Int32) (oc wt sg tk : Nat → Int32), p + d = ln + 1 → d < n → px_Z (px_D op arg lf rt rn tx ln) ln N oc → (∀ (dp' : Int32) (oc' wt' sg' tk' : Nat → Int32), px_Z (px_D op arg lf rt rn tx ln) ln N oc' → post (rl_cs (px_ans op arg lf rt rn tx ln N r) d p acc) (fT, fN, fH, nI ln, dp', op, arg, lf, rt, st, rn, tx, oc', wt', sg', tk')) → wX_stuck_16 post (nI r) n acc (nI p) fT fN fH (nI ln) fD op arg lf rt st rn tx oc wt sg tk := by
  intro d
  induction d with
  | zero =>
    intro n p acc fD oc wt sg tk hp hn Z K
    obtain ⟨n, rfl⟩ : ∃ m, n = m + 1 := ⟨n - 1, by omega⟩
    exact br_t (nI_lt (by omega) (by omega)) (K _ _ _ _ _ Z)
  | succ d ih =>
    intro n p acc fD oc wt sg tk hp hn Z K
    obtain ⟨n, rfl⟩ : ∃ m, n = m + 1 := ⟨n - 1, by omega⟩
    refine br_f (nI_nlt (by omega) (by omega)) (px_match H hN hl Z hr (by omega) fun dp' oc' wt' sg' tk' Z' => ?_)
    have K' : ∀ (dp' : Int32) (oc' wt' sg' tk' : Nat → Int32), px_Z (px_D op arg lf rt rn tx ln) ln N oc' → post (rl_cs (px_ans op arg lf rt rn tx ln N r) d (p + 1) (if px_ans op arg lf rt rn tx ln N r p = -2 then acc + 1 else acc)) (fT, fN, fH, nI ln, dp', op, arg, lf, rt, st, rn, tx, oc', wt', sg', tk') := K
    by_cases c : px_ans op arg lf rt rn tx ln N r p = -2
    · rw [if_pos c] at K'
      exact br_t c (nm_e (nm_r (nI_1 p) (ih n (p + 1) (acc + 1) dp' oc' wt' sg' tk' (by omega) (by omega) Z' K')))
    · rw [if_neg c] at K'
      exact br_f c (nm_r (Int32.add_zero acc) (nm_r (nI_1 p) (ih n (p + 1) acc dp' oc' wt' sg' tk' (by omega) (by omega) Z' K')))
theorem rx_find {post : Int32 → SX → Prop} {r : Nat} (H : px_W op arg lf rt rn N) (hN : N ≤ 40) (hl : ln ≤ 20) (hr : r < 4) : ∀ (d n p : Nat) (fD : Int32) (oc wt sg tk : Nat → Int32), d = ln + 1 - p → p < 2 ^ 31 → d < n → px_Z (px_D op arg lf rt rn tx ln) ln N oc → (∀ (dp' : Int32) (oc' wt' sg' tk' : Nat → Int32), px_Z (px_D op arg lf rt rn tx ln) ln N oc' → post (rl_fd (px_ans op arg lf rt rn tx ln N r) d p) (fT, fN, fH, nI ln, dp', op, arg, lf, rt, st, rn, tx, oc', wt', sg', tk')) → wX_find_22 post (nI r) n (nI p) fT fN fH (nI ln) fD op arg lf rt st rn tx oc wt sg tk := by
  intro d
  induction d with
  | zero =>
    intro n p fD oc wt sg tk hp hp2 hn Z K
    obtain ⟨n, rfl⟩ : ∃ m, n = m + 1 := ⟨n - 1, by omega⟩
    exact br_t (nI_lt (by omega) (by omega)) (K _ _ _ _ _ Z)
  | succ d ih =>
    intro n p fD oc wt sg tk hp hp2 hn Z K
    obtain ⟨n, rfl⟩ : ∃ m, n = m + 1 := ⟨n - 1, by omega⟩
    refine br_f (nI_nlt (by omega) (by omega)) (px_match H hN hl Z hr (by omega) fun dp' oc' wt' sg' tk' Z' => ?_)
    have K' : ∀ (dp' : Int32) (oc' wt' sg' tk' : Nat → Int32), px_Z (px_D op arg lf rt rn tx ln) ln N oc' → post (if px_ans op arg lf rt rn tx ln N r p < 0 then rl_fd (px_ans op arg lf rt rn tx ln N r) d (p + 1) else nI p) (fT, fN, fH, nI ln, dp', op, arg, lf, rt, st, rn, tx, oc', wt', sg', tk') := K
    by_cases c : px_ans op arg lf rt rn tx ln N r p < 0
    · rw [if_pos c] at K'
      exact br_t c (nm_r (nI_1 p) (ih n (p + 1) dp' oc' wt' sg' tk' (by omega) (by omega) (by omega) Z' K'))
    · rw [if_neg c] at K'
      exact br_f c (K' _ _ _ _ _ Z')
end
section
variable {fH : Int32} {ln T : Nat} {co ar fi la st ru tx o : Nat → Int32}
theorem ry_bad0 {post : Int32 → Prop} {r : Nat} (hr : r < 4) (h : post 0) : wpY_bad post (nI r) := by
  unfold wpY_bad
  exact br_f (nI_pos (by omega)) (br_t (nI_le (b := 3) (by omega) (by decide)) h)
theorem ry_bad1 {post : Int32 → Prop} {v : Int32} (hv : v < 0 ∨ ¬ v ≤ 3) (h : post 1) : wpY_bad post v := by
  unfold wpY_bad
  by_cases c : v < 0
  · exact br_t c h
  · rcases hv with z | z
    · exact absurd z c
    · exact br_f c (br_f z h)
theorem ry_matches {post : Int32 → SY → Prop} {r : Nat} {f : Nat → Int32} (H : py_W co ar fi la ru T) (hT : T ≤ 40) (hl : ln ≤ 20) (hr : r < 4) (ho : ∀ i, i < 840 → o i = pg_L (py_D co ar fi la ru tx ln) ln T i) (hf : ∀ p, p ≤ ln → py_ans co ar fi la ru tx ln T r p = f p) : ∀ (d n p : Nat) (acc : Int32), p + d = ln + 1 → d < n → post (rl_cm f d p acc) (nI T, fH, nI ln, co, ar, fi, la, st, ru, tx, o) → wY_matches_18 post (nI r) (nI T) fH (nI ln) co ar fi la st ru tx o n acc (nI p) := by
  intro d
  induction d with
  | zero =>
    intro n p acc hp hn K
    obtain ⟨n, rfl⟩ : ∃ m, n = m + 1 := ⟨n - 1, by omega⟩
    exact br_t (nI_lt (by omega) (by omega)) K
  | succ d ih =>
    intro n p acc hp hn K
    obtain ⟨n, rfl⟩ : ∃ m, n = m + 1 := ⟨n - 1, by omega⟩
    refine br_f (nI_nlt (by omega) (by omega)) (py_ask H hT hl ho hr (by omega) ?_)
    rw [hf p (by omega)]
    have K' : post (rl_cm f d (p + 1) (if f p < 0 then acc else acc + 1)) (nI T, fH, nI ln, co, ar, fi, la, st, ru, tx, o) := K
    by_cases c : f p < 0
    · rw [if_pos c] at K'
      exact br_t c (nm_r (nI_1 p) (ih n (p + 1) acc (by omega) (by omega) K'))
    · rw [if_neg c] at K'
      exact br_f c (nm_e (nm_r (nI_1 p) (ih n (p + 1) (acc + 1) (by omega) (by omega) K')))
theorem ry_stuck {post : Int32 → SY → Prop} {r : Nat} {f : Nat → Int32} (H : py_W co ar fi la ru T) (hT : T ≤ 40) (hl : ln ≤ 20) (hr : r < 4) (ho : ∀ i, i < 840 → o i = pg_L (py_D co ar fi la ru tx ln) ln T i) (hf : ∀ p, p ≤ ln → py_ans co ar fi la ru tx ln T r p = f p) : ∀ (d n p : Nat) (acc : Int32), p + d = ln + 1 → d < n → post (rl_cs f d p acc) (nI T, fH, nI ln, co, ar, fi, la, st, ru, tx, o) → wY_stuck_18 post (nI r) (nI T) fH (nI ln) co ar fi la st ru tx o n acc (nI p) := by
  intro d
  induction d with
  | zero =>
    intro n p acc hp hn K
    obtain ⟨n, rfl⟩ : ∃ m, n = m + 1 := ⟨n - 1, by omega⟩
    exact br_t (nI_lt (by omega) (by omega)) K
  | succ d ih =>
    intro n p acc hp hn K
    obtain ⟨n, rfl⟩ : ∃ m, n = m + 1 := ⟨n - 1, by omega⟩
    refine br_f (nI_nlt (by omega) (by omega)) (py_ask H hT hl ho hr (by omega) ?_)
    rw [hf p (by omega)]
    have K' : post (rl_cs f d (p + 1) (if f p = -2 then acc + 1 else acc)) (nI T, fH, nI ln, co, ar, fi, la, st, ru, tx, o) := K
    by_cases c : f p = -2
    · rw [if_pos c] at K'
      exact br_t c (nm_e (nm_r (nI_1 p) (ih n (p + 1) (acc + 1) (by omega) (by omega) K')))
    · rw [if_neg c] at K'
      exact br_f c (nm_r (nI_1 p) (ih n (p + 1) acc (by omega) (by omega) K'))
theorem ry_first {post : Int32 → Prop} {r q : Nat} {f : Nat → Int32} {x : Int32} (H : py_W co ar fi la ru T) (hT : T ≤ 40) (hl : ln ≤ 20) (hr : r < 4) (ho : ∀ i, i < 840 → o i = pg_L (py_D co ar fi la ru tx ln) ln T i) (hf : ∀ p, p ≤ ln → py_ans co ar fi la ru tx ln T r p = f p) (hq : ∀ p, p ≤ ln → (nI p < x ↔ p < q)) : ∀ (d n p : Nat), p + d = ln + 1 → d < n → post (rl_ff f q d p) → wY_first_2 post (nI r) x (nI T) fH (nI ln) co ar fi la st ru tx o n (nI p) := by
  intro d
  induction d with
  | zero =>
    intro n p hp hn K
    obtain ⟨n, rfl⟩ : ∃ m, n = m + 1 := ⟨n - 1, by omega⟩
    exact br_t (nI_lt (by omega) (by omega)) K
  | succ d ih =>
    intro n p hp hn K
    obtain ⟨n, rfl⟩ : ∃ m, n = m + 1 := ⟨n - 1, by omega⟩
    refine br_f (nI_nlt (by omega) (by omega)) ?_
    have K' : post (if p < q then rl_ff f q d (p + 1) else if f p < 0 then rl_ff f q d (p + 1) else nI p) := K
    by_cases c : p < q
    · rw [if_pos c] at K'
      exact br_t ((hq p (by omega)).mpr c) (nm_r (nI_1 p) (ih n (p + 1) (by omega) (by omega) K'))
    · rw [if_neg c] at K'
      refine br_f (fun z => c ((hq p (by omega)).mp z)) (py_ask H hT hl ho hr (by omega) ?_)
      rw [hf p (by omega)]
      by_cases c2 : f p < 0
      · rw [if_pos c2] at K'
        exact br_t c2 (nm_r (nI_1 p) (ih n (p + 1) (by omega) (by omega) K'))
      · rw [if_neg c2] at K'
        exact br_f c2 K'
end
theorem rl_rule (v : Int32) : (v < 0 ∨ (¬ v < 0 ∧ 3 < v ∧ ¬ v ≤ 3)) ∨ ∃ r, r < 4 ∧ v = nI r := by
  by_cases c : v < 0
  · exact Or.inl (Or.inl c)
  · by_cases c3 : v ≤ 3
    · obtain ⟨j, hj, e⟩ := nI_of2 (M := 3) (n := 3) (by decide) c c3
      exact Or.inr ⟨j, by omega, e⟩
    · exact Or.inl (Or.inr ⟨c, Int32.not_le.mp c3, c3⟩)
theorem i_vc_match {k : Nat} {u : SX} {v : SY} (I : i_Rel k u v) (hk : k + 3 ≤ 1536) (v1 : Int32) (v2 : Int32) : wpX_match (fun r u' => wpY_match (fun r' v' => r' = r ∧ i_Rel (k + 3) u' v') v v1 v2) u v1 v2 := by
  refine rl_el (P := fun u v => wpX_match (fun r u' => wpY_match (fun r' v' => r' = r ∧ i_Rel (k + 3) u' v') v v1 v2) u v1 v2) ?_ I
  intro T N H ln φ fD op arg lf rt sx rn tx oc wt sg tk co ar fi la sy ru oo G Z
  have hT40 := G.1
  have hNT := G.2.1
  have hl := G.2.2.2.1
  have WX := rl_xW G
  have WY := rl_yW G
  rcases rl_rule v1 with (c | ⟨c, c3, c3'⟩) | ⟨r, hr, rfl⟩
  · unfold wpX_match
    dsimp only
    refine br_t c ?_
    show wpY_match _ _ _ _
    unfold wpY_match
    dsimp only
    exact ry_bad1 (Or.inl c) (br_f (by decide) ⟨rfl, rl_mk G Z⟩)
  · unfold wpX_match
    dsimp only
    refine br_f c (br_t c3 ?_)
    show wpY_match _ _ _ _
    unfold wpY_match
    dsimp only
    exact ry_bad1 (Or.inr c3') (br_f (by decide) ⟨rfl, rl_mk G Z⟩)
  · by_cases c0 : v2 < 0
    · unfold wpX_match
      dsimp only
      refine br_f (nI_pos (by omega)) (br_f (nI_nlt (a := 3) (by omega) (by decide)) (br_t c0 ?_))
      show wpY_match _ _ _ _
      unfold wpY_match
      dsimp only
      exact ry_bad0 hr (br_t rfl (br_t c0 ⟨rfl, rl_mk G Z⟩))
    · by_cases cl : v2 ≤ nI ln
      · obtain ⟨p, hp, rfl⟩ : ∃ p, p ≤ ln ∧ v2 = nI p := nI_of2 (nI_toInt (by omega)) c0 cl
        refine px_match WX (by omega) hl Z hr hp fun dp' oc' wt' sg' tk' Z' => ?_
        show wpY_match _ _ _ _
        unfold wpY_match
        dsimp only
        refine ry_bad0 hr (br_t rfl (br_f c0 (br_t cl (py_work WY hT40 hl fun o' ho => ?_))))
        refine py_ask WY hT40 hl ho hr hp ?_
        exact ⟨rl_ans G hr hp, rl_mk G Z'⟩
      · unfold wpX_match
        dsimp only
        refine br_f (nI_pos (by omega)) (br_f (nI_nlt (a := 3) (by omega) (by decide)) (br_f c0 (br_f cl ?_)))
        show wpY_match _ _ _ _
        unfold wpY_match
        dsimp only
        exact ry_bad0 hr (br_t rfl (br_f c0 (br_f cl ⟨rfl, rl_mk G Z⟩)))
theorem i_vc_matches {k : Nat} {u : SX} {v : SY} (I : i_Rel k u v) (hk : k + 3 ≤ 1536) (v1 : Int32) : wpX_matches (fun r u' => wpY_matches (fun r' v' => r' = r ∧ i_Rel (k + 3) u' v') v v1) u v1 := by
  refine rl_el (P := fun u v => wpX_matches (fun r u' => wpY_matches (fun r' v' => r' = r ∧ i_Rel (k + 3) u' v') v v1) u v1) ?_ I
  intro T N H ln φ fD op arg lf rt sx rn tx oc wt sg tk co ar fi la sy ru oo G Z
  have hT40 := G.1
  have hNT := G.2.1
  have hl := G.2.2.2.1
  have WX := rl_xW G
  have WY := rl_yW G
  unfold wpX_matches
  dsimp only
  rcases rl_rule v1 with (c | ⟨c, c3, c3'⟩) | ⟨r, hr, rfl⟩
  · refine br_t c ?_
    unfold wpY_matches
    dsimp only
    exact ry_bad1 (Or.inl c) (br_f (by decide) ⟨rfl, rl_mk G Z⟩)
  · refine br_f c (br_f c3' ?_)
    unfold wpY_matches
    dsimp only
    exact ry_bad1 (Or.inr c3') (br_f (by decide) ⟨rfl, rl_mk G Z⟩)
  · refine br_f (nI_pos (by omega)) (br_t (nI_le (b := 3) (by omega) (by decide)) ⟨ln + 2, rx_matches WX (by omega) hl hr (ln + 1) (ln + 2) 0 0 fD oc wt sg tk (by omega) (by omega) Z fun dp' oc' wt' sg' tk' Z' => ?_⟩)
    unfold wpY_matches
    dsimp only
    refine ry_bad0 hr (br_t rfl (py_work WY hT40 hl fun o' ho => ⟨ln + 2, ?_⟩))
    exact ry_matches WY hT40 hl hr ho (fun p hp => rl_ans G hr hp) (ln + 1) (ln + 2) 0 0 (by omega) (by omega) ⟨rfl, rl_mk G Z'⟩
theorem i_vc_stuck {k : Nat} {u : SX} {v : SY} (I : i_Rel k u v) (hk : k + 3 ≤ 1536) (v1 : Int32) : wpX_stuck (fun r u' => wpY_stuck (fun r' v' => r' = r ∧ i_Rel (k + 3) u' v') v v1) u v1 := by
  refine rl_el (P := fun u v => wpX_stuck (fun r u' => wpY_stuck (fun r' v' => r' = r ∧ i_Rel (k + 3) u' v') v v1) u v1) ?_ I
  intro T N H ln φ fD op arg lf rt sx rn tx oc wt sg tk co ar fi la sy ru oo G Z
  have hT40 := G.1
  have hNT := G.2.1
  have hl := G.2.2.2.1
  have WX := rl_xW G
  have WY := rl_yW G
  unfold wpX_stuck
  dsimp only
  rcases rl_rule v1 with (c | ⟨c, c3, c3'⟩) | ⟨r, hr, rfl⟩
  · refine br_t c ?_
    unfold wpY_stuck
    dsimp only
    exact ry_bad1 (Or.inl c) (br_f (by decide) ⟨rfl, rl_mk G Z⟩)
  · refine br_f c (br_f c3' ?_)
    unfold wpY_stuck
    dsimp only
    exact ry_bad1 (Or.inr c3') (br_f (by decide) ⟨rfl, rl_mk G Z⟩)
  · refine br_f (nI_pos (by omega)) (br_t (nI_le (b := 3) (by omega) (by decide)) ⟨ln + 2, rx_stuck WX (by omega) hl hr (ln + 1) (ln + 2) 0 0 fD oc wt sg tk (by omega) (by omega) Z fun dp' oc' wt' sg' tk' Z' => ?_⟩)
    unfold wpY_stuck
    dsimp only
    refine ry_bad0 hr (br_t rfl (py_work WY hT40 hl fun o' ho => ⟨ln + 2, ?_⟩))
    exact ry_stuck WY hT40 hl hr ho (fun p hp => rl_ans G hr hp) (ln + 1) (ln + 2) 0 0 (by omega) (by omega) ⟨rfl, rl_mk G Z'⟩
theorem i_vc_whole {k : Nat} {u : SX} {v : SY} (I : i_Rel k u v) (hk : k + 3 ≤ 1536) (v1 : Int32) : wpX_whole (fun r u' => wpY_whole (fun r' v' => r' = r ∧ i_Rel (k + 3) u' v') v v1) u v1 := by
  refine rl_el (P := fun u v => wpX_whole (fun r u' => wpY_whole (fun r' v' => r' = r ∧ i_Rel (k + 3) u' v') v v1) u v1) ?_ I
  intro T N H ln φ fD op arg lf rt sx rn tx oc wt sg tk co ar fi la sy ru oo G Z
  have hT40 := G.1
  have hNT := G.2.1
  have hl := G.2.2.2.1
  have WX := rl_xW G
  have WY := rl_yW G
  unfold wpX_whole
  dsimp only
  rcases rl_rule v1 with (c | ⟨c, c3, c3'⟩) | ⟨r, hr, rfl⟩
  · refine br_t c ?_
    unfold wpY_whole
    dsimp only
    exact ry_bad1 (Or.inl c) (br_f (by decide) ⟨rfl, rl_mk G Z⟩)
  · refine br_f c (br_f c3' ?_)
    unfold wpY_whole
    dsimp only
    exact ry_bad1 (Or.inr c3') (br_f (by decide) ⟨rfl, rl_mk G Z⟩)
  · refine br_f (nI_pos (by omega)) (br_t (nI_le (b := 3) (by omega) (by decide)) (px_match (p := 0) WX (by omega) hl Z hr (by omega) fun dp' oc' wt' sg' tk' Z' => ?_))
    have hw : ∀ (post : Int32 → SY → Prop), (∀ o' : Nat → Int32, post (if px_ans op arg lf rt rn tx ln N r 0 = nI ln then 1 else 0) (nI T, nI H, nI ln, co, ar, fi, la, sy, ru, tx, o')) → wpY_whole post (nI T, nI H, nI ln, co, ar, fi, la, sy, ru, tx, oo) (nI r) := by
      intro post hp
      unfold wpY_whole
      dsimp only
      refine ry_bad0 hr (br_t rfl (py_work WY hT40 hl fun o' ho => ?_))
      refine py_ask (p := 0) WY hT40 hl ho hr (by omega) ?_
      rw [rl_ans G hr (by omega)]
      have hp := hp o'
      by_cases e : px_ans op arg lf rt rn tx ln N r 0 = nI ln
      · rw [if_pos e] at hp; exact br_t e hp
      · rw [if_neg e] at hp; exact br_f e hp
    by_cases e : px_ans op arg lf rt rn tx ln N r 0 = nI ln
    · refine br_t e (hw _ fun o' => ?_)
      rw [if_pos e]
      exact ⟨rfl, rl_mk G Z'⟩
    · refine br_f e (hw _ fun o' => ?_)
      rw [if_neg e]
      exact ⟨rfl, rl_mk G Z'⟩
theorem i_vc_find {k : Nat} {u : SX} {v : SY} (I : i_Rel k u v) (hk : k + 3 ≤ 1536) (v1 : Int32) (v2 : Int32) : wpX_find (fun r u' => wpY_find (fun r' v' => r' = r ∧ i_Rel (k + 3) u' v') v v1 v2) u v1 v2 := by
  refine rl_el (P := fun u v => wpX_find (fun r u' => wpY_find (fun r' v' => r' = r ∧ i_Rel (k + 3) u' v') v v1 v2) u v1 v2) ?_ I
  intro T N H ln φ fD op arg lf rt sx rn tx oc wt sg tk co ar fi la sy ru oo G Z
  have hT40 := G.1
  have hNT := G.2.1
  have hl := G.2.2.2.1
  have WX := rl_xW G
  have WY := rl_yW G
  unfold wpX_find
  dsimp only
  rcases rl_rule v1 with (c | ⟨c, c3, c3'⟩) | ⟨r, hr, rfl⟩
  · refine br_t c ?_
    unfold wpY_find
    dsimp only
    exact ry_bad1 (Or.inl c) (br_f (by decide) ⟨rfl, rl_mk G Z⟩)
  · refine br_f c (br_f c3' ?_)
    unfold wpY_find
    dsimp only
    exact ry_bad1 (Or.inr c3') (br_f (by decide) ⟨rfl, rl_mk G Z⟩)
  · have hw : ∀ (q : Nat) (post : Int32 → SY → Prop), (∀ p, p ≤ ln → (nI p < v2 ↔ p < q)) → (∀ o' : Nat → Int32, post (rl_fd (px_ans op arg lf rt rn tx ln N r) (ln + 1 - q) q) (nI T, nI H, nI ln, co, ar, fi, la, sy, ru, tx, o')) → wpY_find post (nI T, nI H, nI ln, co, ar, fi, la, sy, ru, tx, oo) (nI r) v2 := by
      intro q post hq hp
      unfold wpY_find
      dsimp only
      refine ry_bad0 hr (br_t rfl (py_work WY hT40 hl fun o' ho => ?_))
      show wpY_first _ _ _ _
      unfold wpY_first
      dsimp only
      refine ⟨ln + 2, ry_first WY hT40 hl hr ho (fun p hp => rl_ans G hr hp) hq (ln + 1) (ln + 2) 0 (by omega) (by omega) ?_⟩
      rw [rl_ff_b (ln := ln) (ln + 1) 0 (by omega) (by omega)]
      exact hp o'
    refine br_f (nI_pos (by omega)) (br_t (nI_le (b := 3) (by omega) (by decide)) ?_)
    by_cases c0 : 0 ≤ v2
    · obtain ⟨q, hq, rfl⟩ := nI_of (x := v2) (Int32.not_lt.mpr c0)
      refine br_t c0 ⟨ln + 2, rx_find WX (by omega) hl hr (ln + 1 - q) (ln + 2) q fD oc wt sg tk rfl hq (by omega) Z fun dp' oc' wt' sg' tk' Z' => ?_⟩
      exact hw q _ (fun p hp => nI_ltI (by omega) hq) fun o' => ⟨rfl, rl_mk G Z'⟩
    · refine br_f c0 ⟨ln + 2, rx_find WX (by omega) hl hr (ln + 1) (ln + 2) 0 fD oc wt sg tk rfl (by omega) (by omega) Z fun dp' oc' wt' sg' tk' Z' => ?_⟩
      refine hw 0 _ (fun p hp => ⟨fun z => ?_, fun z => absurd z (Nat.not_lt_zero p)⟩) fun o' => ⟨rfl, rl_mk G Z'⟩
      exact absurd (Int32.le_trans (nI_pos' (by omega)) (Int32.le_of_lt z)) c0
end
