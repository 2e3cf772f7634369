section
theorem pk_us {f : Nat → Int32} {k : Nat} {x : Int32} : upd f k x k = x := if_pos rfl
theorem pk_un {f : Nat → Int32} {k j : Nat} {x : Int32} (h : j ≠ k) : upd f k x j = f j := if_neg h
theorem pk_sub {a b : Nat} (h : b ≤ a) : nI a - nI b = nI (a - b) := by
  obtain ⟨c, rfl⟩ : ∃ c, a = c + b := ⟨a - b, by omega⟩
  rw [← nI_add, Int32.add_sub_cancel, Nat.add_sub_cancel]
theorem pk_m1 (n : Nat) : nI (n + 1) + (-1) = nI n := by
  rw [← nI_1, Int32.add_assoc, show (1 : Int32) + (-1) = 0 from rfl, Int32.add_zero]
theorem pk_ix (x : Int32) {n : Nat} (hn : n < 2 ^ 31) : x < 0 ∨ nI n ≤ x ∨ ∃ j : Nat, j < n ∧ x = nI j := by
  by_cases h : x < 0
  · exact Or.inl h
  · obtain ⟨j, hj, rfl⟩ := nI_of h
    by_cases h2 : j < n
    · exact Or.inr (Or.inr ⟨j, h2, rfl⟩)
    · exact Or.inr (Or.inl (nI_le (by omega) hj))
theorem pk_le {x y : Int32} {A B : Prop} (a b : Nat) (f : a ≤ b → A) (g : b < a → B) (hx : x = nI a := by rfl) (hy : y = nI b := by rfl) (ha : a < 2 ^ 31 := by omega) (hb : b < 2 ^ 31 := by omega) : (x ≤ y → A) ∧ (¬ x ≤ y → B) := by
  subst hx hy
  rw [nI_leI ha hb]
  exact ⟨f, fun z => g (by omega)⟩
theorem pk_lt {x y : Int32} {A B : Prop} (a b : Nat) (f : a < b → A) (g : b ≤ a → B) (hx : x = nI a := by rfl) (hy : y = nI b := by rfl) (ha : a < 2 ^ 31 := by omega) (hb : b < 2 ^ 31 := by omega) : (x < y → A) ∧ (¬ x < y → B) := by
  subst hx hy
  rw [nI_ltI ha hb]
  exact ⟨f, fun z => g (by omega)⟩
theorem pk_eq {x y : Int32} {A B : Prop} (a b : Nat) (f : a = b → A) (g : a ≠ b → B) (hx : x = nI a := by rfl) (hy : y = nI b := by rfl) (ha : a < 2 ^ 31 := by omega) (hb : b < 2 ^ 31 := by omega) : (x = y → A) ∧ (¬ x = y → B) := by
  subst hx hy
  rw [nI_eq ha hb]
  exact ⟨f, g⟩
theorem pk_in {x : Int32} (n N : Nat) (h : n < N) (hx : x = nI n := by rfl) (hN : N < 2 ^ 31 := by omega) : vp_in x N := by
  subst hx
  exact vp_in_nI h hN
theorem pk_cl {x : Int32} (n : Nat) (hx : x = nI n := by rfl) (h : n < 2 ^ 31 := by omega) : x.toNatClampNeg = n := by
  subst hx
  exact nI_clamp h
theorem pk_and (x : Int32) {m : Int32} (k : Nat) (hm : m.toBitVec.toNat = 2 ^ k - 1) : x &&& m = nI (x.toBitVec.toNat % 2 ^ k) := by
  apply Int32.toBitVec_inj.mp
  apply BitVec.eq_of_toNat_eq
  rw [Int32.toBitVec_and, BitVec.toNat_and, hm, Nat.and_two_pow_sub_one_eq_mod]
  show _ = (BitVec.ofNat 32 _).toNat
  rw [BitVec.toNat_ofNat]
  exact (Nat.mod_eq_of_lt (Nat.lt_of_le_of_lt (Nat.mod_le _ _) x.toBitVec.isLt)).symm
theorem pk_andE (x : Int32) {m : Int32} (k : Nat) (hm : m.toBitVec.toNat = 2 ^ k - 1) : ∃ j : Nat, j < 2 ^ k ∧ x &&& m = nI j := ⟨_, Nat.mod_lt _ (Nat.two_pow_pos k), pk_and x k hm⟩
theorem pk_least (P : Nat → Prop) (h : ∃ k, P k) : ∃ k, P k ∧ ∀ j, j < k → ¬ P j := by
  obtain ⟨k, hk⟩ := h
  induction k using Nat.strongRecOn with
  | ind k ih =>
    by_cases e : ∃ j, j < k ∧ P j
    · obtain ⟨j, hj, pj⟩ := e
      exact ih j hj pj
    · exact ⟨k, hk, fun j hj pj => e ⟨j, hj, pj⟩⟩
theorem tt_b {P : Int32 → Prop} {x y : Int32} (e : x = y) (h : P y) : P x := e ▸ h
/-- an array of naturals as ints -/
def tt_aI (f : Nat → Nat) : Nat → Int32 := fun i => nI (f i)
def tt_up (f : Nat → Nat) (k x : Nat) : Nat → Nat := fun j => if j = k then x else f j
theorem tt_up_s {f : Nat → Nat} {k x : Nat} : tt_up f k x k = x := if_pos rfl
theorem tt_up_n {f : Nat → Nat} {k x j : Nat} (h : j ≠ k) : tt_up f k x j = f j := if_neg h
theorem tt_aI_up (f : Nat → Nat) (k x : Nat) : upd (tt_aI f) k (nI x) = tt_aI (tt_up f k x) := by
  funext j
  show (if j = k then nI x else nI (f j)) = nI (if j = k then x else f j)
  by_cases h : j = k
  · rw [if_pos h, if_pos h]
  · rw [if_neg h, if_neg h]
theorem tt_aI_0 : tt_aI (fun _ => 0) = (fun _ => 0) := by
  funext j
  exact nI_0
/-- what is known as of n, by the entries -/
def tt_K (th fr tl : Nat → Nat) (sy vl : Nat → Int32) : Nat → Nat → Nat → Option Int32
  | 0 => fun _ _ => none
  | n + 1 => fun t d => if th n = t ∧ fr n ≤ d ∧ d < tl n then (if sy n = 0 then none else some (vl n)) else tt_K th fr tl sy vl n t d
theorem tt_K_s {th fr tl : Nat → Nat} {sy vl : Nat → Int32} {n t d : Nat} (h : th n = t ∧ fr n ≤ d ∧ d < tl n) : tt_K th fr tl sy vl (n + 1) t d = if sy n = 0 then none else some (vl n) := if_pos h
theorem tt_K_n {th fr tl : Nat → Nat} {sy vl : Nat → Int32} {n t d : Nat} (h : ¬ (th n = t ∧ fr n ≤ d ∧ d < tl n)) : tt_K th fr tl sy vl (n + 1) t d = tt_K th fr tl sy vl n t d := if_neg h
theorem tt_K_c {th fr tl th' fr' tl' : Nat → Nat} {sy vl sy' vl' : Nat → Int32} (E : Nat) (h : ∀ e, e < E → th' e = th e ∧ fr' e = fr e ∧ tl' e = tl e ∧ sy' e = sy e ∧ vl' e = vl e) : ∀ n, n ≤ E → ∀ t d, tt_K th' fr' tl' sy' vl' n t d = tt_K th fr tl sy vl n t d := by
  intro n
  induction n with
  | zero => intro _ t d; rfl
  | succ n ih =>
    intro hn t d
    obtain ⟨h1, h2, h3, h4, h5⟩ := h n (by omega)
    show (if th' n = t ∧ fr' n ≤ d ∧ d < tl' n then (if sy' n = 0 then none else some (vl' n)) else tt_K th' fr' tl' sy' vl' n t d) = (if th n = t ∧ fr n ≤ d ∧ d < tl n then (if sy n = 0 then none else some (vl n)) else tt_K th fr tl sy vl n t d)
    rw [h1, h2, h3, h4, h5, ih (by omega) t d]
end
section
/-! the rows as a picture of what is known: pure -/
abbrev tt_kn (B C : Nat → Nat) (r n : Nat) : Prop := B r ≤ n ∧ (C r = 0 ∨ n < C r)
abbrev tt_cv (T F L : Nat → Nat) (r t d : Nat) : Prop := T r = t ∧ F r ≤ d ∧ d < L r
def tt_R0 (E R : Nat) (T F L B C : Nat → Nat) : Prop :=
  ∀ r, r < R → T r < 6 ∧ F r < L r ∧ L r ≤ 100 ∧ 1 ≤ B r ∧ B r ≤ E ∧ (C r = 0 ∨ (B r < C r ∧ C r ≤ E))
def tt_RX (E R : Nat) (T F L B C : Nat → Nat) (V : Nat → Int32) (K : Nat → Nat → Nat → Option Int32) : Prop :=
  tt_R0 E R T F L B C
  ∧ (∀ r n t d, r < R → n ≤ E → tt_cv T F L r t d → tt_kn B C r n → K n t d = some (V r))
  ∧ (∀ n t d v, n ≤ E → K n t d = some v → ∃ r, r < R ∧ tt_cv T F L r t d ∧ tt_kn B C r n)
  ∧ (∀ r q n t d, r < R → q < R → n ≤ E → tt_cv T F L r t d → tt_cv T F L q t d → tt_kn B C r n → tt_kn B C q n → r = q)
section
variable {E R : Nat} {T F L B C : Nat → Nat} {V : Nat → Int32} {K K' : Nat → Nat → Nat → Option Int32}
theorem tt_RXc (h : tt_RX E R T F L B C V K) (h1 : ∀ n t d, n ≤ E → K' n t d = K n t d) : tt_RX E R T F L B C V K' := by
  obtain ⟨a0, a1, a2, a3⟩ := h
  refine ⟨a0, ?_, ?_, a3⟩
  · intro r n t d hr hn hc hk
    rw [h1 n t d hn]
    exact a1 r n t d hr hn hc hk
  · intro n t d v hn hv
    rw [h1 n t d hn] at hv
    exact a2 n t d v hn hv
theorem tt_tick (h : tt_RX E R T F L B C V K) (h1 : ∀ n t d, n ≤ E → K' n t d = K n t d) (h2 : ∀ t d, K' (E + 1) t d = K E t d) : tt_RX (E + 1) R T F L B C V K' := by
  obtain ⟨a0, a1, a2, a3⟩ := h
  have key : ∀ n, n ≤ E + 1 → ∃ n', n' ≤ E ∧ (∀ t d, K' n t d = K n' t d) ∧ ∀ r, r < R → (tt_kn B C r n ↔ tt_kn B C r n') := by
    intro n hn
    by_cases z : n ≤ E
    · exact ⟨n, z, fun t d => h1 n t d z, fun r _ => Iff.rfl⟩
    · have e : n = E + 1 := by omega
      subst e
      refine ⟨E, Nat.le_refl E, h2, fun r hr => ?_⟩
      have z := a0 r hr
      show (B r ≤ E + 1 ∧ (C r = 0 ∨ E + 1 < C r)) ↔ (B r ≤ E ∧ (C r = 0 ∨ E < C r))
      omega
  refine ⟨?_, ?_, ?_, ?_⟩
  · intro r hr
    have z := a0 r hr
    omega
  · intro r n t d hr hn hc hk
    obtain ⟨n', hn', e, k⟩ := key n hn
    rw [e]
    exact a1 r n' t d hr hn' hc ((k r hr).mp hk)
  · intro n t d v hn hv
    obtain ⟨n', hn', e, k⟩ := key n hn
    rw [e] at hv
    obtain ⟨r, hr, hc, hk⟩ := a2 n' t d v hn' hv
    exact ⟨r, hr, hc, (k r hr).mpr hk⟩
  · intro r q n t d hr hq hn hc hc' hk hk'
    obtain ⟨n', hn', e, k⟩ := key n hn
    exact a3 r q n' t d hr hq hn' hc hc' ((k r hr).mp hk) ((k q hq).mp hk')
theorem tt_close (h : tt_RX E R T F L B C V K) {i : Nat} (hi : i < R) (hC : C i = 0) (hB : B i < E) (h1 : ∀ n t d, n ≤ E → ¬ (n = E ∧ tt_cv T F L i t d) → K' n t d = K n t d) (h2 : ∀ t d, tt_cv T F L i t d → K' E t d = none) : tt_RX E R T F L B (tt_up C i E) V K' := by
  obtain ⟨a0, a1, a2, a3⟩ := h
  have kk : ∀ r n, n ≤ E → (tt_kn B (tt_up C i E) r n ↔ (tt_kn B C r n ∧ ¬ (n = E ∧ r = i))) := by
    intro r n hn
    show (B r ≤ n ∧ (tt_up C i E r = 0 ∨ n < tt_up C i E r)) ↔ ((B r ≤ n ∧ (C r = 0 ∨ n < C r)) ∧ ¬ (n = E ∧ r = i))
    by_cases z : r = i
    · rw [z, tt_up_s]
      omega
    · rw [tt_up_n z]
      omega
  have ki : tt_kn B C i E := ⟨by omega, Or.inl hC⟩
  refine ⟨?_, ?_, ?_, ?_⟩
  · intro r hr
    have z := a0 r hr
    by_cases e : r = i
    · rw [e] at z ⊢
      rw [tt_up_s]
      omega
    · rw [tt_up_n e]
      exact z
  · intro r n t d hr hn hc hk
    obtain ⟨k1, k2⟩ := (kk r n hn).mp hk
    rw [h1 n t d hn (fun z => k2 ⟨z.1, a3 r i E t d hr hi (Nat.le_refl E) hc z.2 (z.1 ▸ k1) ki⟩)]
    exact a1 r n t d hr hn hc k1
  · intro n t d v hn hv
    by_cases z : n = E ∧ tt_cv T F L i t d
    · rw [z.1, h2 t d z.2] at hv
      exact nomatch hv
    · rw [h1 n t d hn z] at hv
      obtain ⟨r, hr, hc, hk⟩ := a2 n t d v hn hv
      exact ⟨r, hr, hc, (kk r n hn).mpr ⟨hk, fun y => z ⟨y.1, y.2 ▸ hc⟩⟩⟩
  · intro r q n t d hr hq hn hc hc' hk hk'
    exact a3 r q n t d hr hq hn hc hc' ((kk r n hn).mp hk).1 ((kk q n hn).mp hk').1
theorem tt_open (h : tt_RX E R T F L B C V K) {t0 x y : Nat} {v : Int32} (hE : 1 ≤ E) (ht : t0 < 6) (hxy : x < y) (hy : y ≤ 100) (hno : ∀ d, x ≤ d → d < y → K E t0 d = none) (h1 : ∀ n t d, n ≤ E → ¬ (n = E ∧ t = t0 ∧ x ≤ d ∧ d < y) → K' n t d = K n t d) (h2 : ∀ d, x ≤ d → d < y → K' E t0 d = some v) : tt_RX E (R + 1) (tt_up T R t0) (tt_up F R x) (tt_up L R y) (tt_up B R E) (tt_up C R 0) (upd V R v) K' := by
  obtain ⟨a0, a1, a2, a3⟩ := h
  have cvn : ∀ r t d, r ≠ R → (tt_cv (tt_up T R t0) (tt_up F R x) (tt_up L R y) r t d ↔ tt_cv T F L r t d) := by
    intro r t d hr
    show (tt_up T R t0 r = t ∧ tt_up F R x r ≤ d ∧ d < tt_up L R y r) ↔ _
    rw [tt_up_n hr, tt_up_n hr, tt_up_n hr]
  have cvs : ∀ t d, tt_cv (tt_up T R t0) (tt_up F R x) (tt_up L R y) R t d ↔ (t0 = t ∧ x ≤ d ∧ d < y) := by
    intro t d
    show (tt_up T R t0 R = t ∧ tt_up F R x R ≤ d ∧ d < tt_up L R y R) ↔ _
    rw [tt_up_s, tt_up_s, tt_up_s]
  have knn : ∀ r n, r ≠ R → (tt_kn (tt_up B R E) (tt_up C R 0) r n ↔ tt_kn B C r n) := by
    intro r n hr
    show (tt_up B R E r ≤ n ∧ (tt_up C R 0 r = 0 ∨ n < tt_up C R 0 r)) ↔ _
    rw [tt_up_n hr, tt_up_n hr]
  have kns : ∀ n, tt_kn (tt_up B R E) (tt_up C R 0) R n ↔ E ≤ n := by
    intro n
    show (tt_up B R E R ≤ n ∧ (tt_up C R 0 R = 0 ∨ n < tt_up C R 0 R)) ↔ _
    rw [tt_up_s, tt_up_s]
    omega
  have clash : ∀ q n t d, q < R → n ≤ E → E ≤ n → t0 = t → x ≤ d → d < y → tt_cv T F L q t d → tt_kn B C q n → False := by
    intro q n t d hq hn hn' et hx hd hc hk
    have e : n = E := by omega
    subst e et
    have z := a1 q n t0 d hq hn hc hk
    rw [hno d hx hd] at z
    exact nomatch z
  refine ⟨?_, ?_, ?_, ?_⟩
  · intro r hr
    by_cases e : r = R
    · rw [e, tt_up_s, tt_up_s, tt_up_s, tt_up_s, tt_up_s]
      omega
    · rw [tt_up_n e, tt_up_n e, tt_up_n e, tt_up_n e, tt_up_n e]
      exact a0 r (by omega)
  · intro r n t d hr hn hc hk
    by_cases e : r = R
    · subst e
      obtain ⟨et, hx, hd⟩ := (cvs t d).mp hc
      have en : n = E := by have := (kns n).mp hk; omega
      rw [en, ← et, h2 d hx hd, pk_us]
    · have hc' := (cvn r t d e).mp hc
      have hk' := (knn r n e).mp hk
      rw [pk_un e, h1 n t d hn ?_]
      · exact a1 r n t d (by omega) hn hc' hk'
      · intro z
        exact clash r n t d (by omega) hn (by omega) z.2.1.symm z.2.2.1 z.2.2.2 hc' hk'
  · intro n t d v' hn hv
    by_cases z : n = E ∧ t = t0 ∧ x ≤ d ∧ d < y
    · exact ⟨R, by omega, (cvs t d).mpr ⟨z.2.1.symm, z.2.2⟩, (kns n).mpr (by omega)⟩
    · rw [h1 n t d hn z] at hv
      obtain ⟨r, hr, hc, hk⟩ := a2 n t d v' hn hv
      have e : r ≠ R := by omega
      exact ⟨r, by omega, (cvn r t d e).mpr hc, (knn r n e).mpr hk⟩
  · intro r q n t d hr hq hn hc hc' hk hk'
    by_cases e : r = R
    · by_cases e' : q = R
      · rw [e, e']
      · subst e
        obtain ⟨et, hx, hd⟩ := (cvs t d).mp hc
        exact (clash q n t d (by omega) hn ((kns n).mp hk) et hx hd ((cvn q t d e').mp hc') ((knn q n e').mp hk')).elim
    · by_cases e' : q = R
      · subst e'
        obtain ⟨et, hx, hd⟩ := (cvs t d).mp hc'
        exact (clash r n t d (by omega) hn ((kns n).mp hk') et hx hd ((cvn r t d e).mp hc) ((knn r n e).mp hk)).elim
      · exact a3 r q n t d (by omega) (by omega) hn ((cvn r t d e).mp hc) ((cvn q t d e').mp hc') ((knn r n e).mp hk) ((knn q n e').mp hk')
end
end
section
/-! the cut, pure: rows at hand while rows are closed and their rests opened anew. X: the days of the thing that are still to be opened again -/
def tt_ex (T F L C : Nat → Nat) (t a e i : Nat) : Prop := ∃ q, q < i ∧ T q = t ∧ F q < a ∧ a < L q ∧ C q = e
def tt_CS (E R : Nat) (K : Nat → Nat → Nat → Option Int32) (t a b l i j : Nat) (X : Nat → Prop) (R' : Nat) (T F L B C : Nat → Nat) (V : Nat → Int32) : Prop :=
  ∃ (M : Nat → Nat → Nat → Option Int32) (x y : Nat), tt_RX (E + 1) R' T F L B C V M
  ∧ (∀ n t' d, n ≤ E → M n t' d = K n t' d)
  ∧ (∀ t' d, ¬ (t' = t ∧ ((a ≤ d ∧ d < b) ∨ X d)) → M (E + 1) t' d = K E t' d)
  ∧ (∀ d, X d → M (E + 1) t d = none)
  ∧ (∀ r, r < l → ¬ (T r = t ∧ C r = 0 ∧ F r < b ∧ a < L r))
  ∧ (∀ r, R ≤ r → r < R' → L r ≤ a ∨ b ≤ F r)
  ∧ (∀ r, r < R → B r ≤ E)
  ∧ R' = R + x + y ∧ x ≤ 1 ∧ y ≤ 1
  ∧ (x = 1 → tt_ex T F L C t a (E + 1) i)
  ∧ (y = 1 → tt_ex T F L C t b (E + 1) j)
section
variable {E R R' t a b i : Nat} {T F L B C : Nat → Nat} {V : Nat → Int32} {K K' : Nat → Nat → Nat → Option Int32}
theorem tt_CS_start (h : tt_RX E R T F L B C V K) : tt_CS E R K t a b 0 0 0 (fun _ => False) R T F L B C V := by
  refine ⟨fun n t d => if n ≤ E then K n t d else K E t d, 0, 0, ?_, ?_, ?_, ?_, ?_, ?_, ?_, by omega, by omega, by omega, by omega, by omega⟩
  · exact tt_tick h (fun n t d hn => if_pos hn) (fun t d => if_neg (by omega))
  · intro n t' d hn
    exact if_pos hn
  · intro t' d _
    exact if_neg (by omega)
  · intro d hd
    exact hd.elim
  · intro r hr
    omega
  · intro r h1 h2
    omega
  · intro r hr
    have := h.1 r hr
    omega
theorem tt_CS_b {l j : Nat} {X : Nat → Prop} (h : tt_CS E R K t a b l i j X R' T F L B C V) : R ≤ R' ∧ R' ≤ R + 2 ∧ tt_R0 (E + 1) R' T F L B C := by
  obtain ⟨M, x, y, h1, _, _, _, _, _, _, h8, h9, h10, _⟩ := h
  exact ⟨by omega, by omega, h1.1⟩
theorem tt_CS_skip (h : tt_CS E R K t a b i i i (fun _ => False) R' T F L B C V) (hn : ¬ (T i = t ∧ C i = 0 ∧ F i < b ∧ a < L i)) : tt_CS E R K t a b (i + 1) (i + 1) (i + 1) (fun _ => False) R' T F L B C V := by
  obtain ⟨M, x, y, h1, h2, h3, h4, h5, h6, h7, h8, h9, h10, h11, h12⟩ := h
  refine ⟨M, x, y, h1, h2, h3, h4, ?_, h6, h7, h8, h9, h10, ?_, ?_⟩
  · intro r hr
    by_cases e : r = i
    · rw [e]; exact hn
    · exact h5 r (by omega)
  · intro z
    obtain ⟨q, hq, r⟩ := h11 z
    exact ⟨q, by omega, r⟩
  · intro z
    obtain ⟨q, hq, r⟩ := h12 z
    exact ⟨q, by omega, r⟩
theorem tt_CS_close (h : tt_CS E R K t a b i i i (fun _ => False) R' T F L B C V) (hi : i < R) (hT : T i = t) (hC : C i = 0) (hF : F i < b) (hL : a < L i) : tt_CS E R K t a b (i + 1) i i (fun d => F i ≤ d ∧ d < L i) R' T F L B (tt_up C i (E + 1)) V ∧ (∀ d, F i ≤ d → d < L i → ¬ (a ≤ d ∧ d < b) → K E t d = some (V i)) := by
  obtain ⟨M, x, y, h1, h2, h3, h4, h5, h6, h7, h8, h9, h10, h11, h12⟩ := h
  have hB := h7 i hi
  constructor
  · refine ⟨fun n t' d => if n = E + 1 ∧ tt_cv T F L i t' d then none else M n t' d, x, y, ?_, ?_, ?_, ?_, ?_, h6, h7, h8, h9, h10, ?_, ?_⟩
    · exact tt_close h1 (by omega) hC (by omega) (fun n t' d hn z => if_neg z) (fun t' d z => if_pos ⟨rfl, z⟩)
    · intro n t' d hn
      show (if n = E + 1 ∧ tt_cv T F L i t' d then none else M n t' d) = _
      rw [if_neg (by omega)]
      exact h2 n t' d hn
    · intro t' d z
      show (if E + 1 = E + 1 ∧ tt_cv T F L i t' d then none else M (E + 1) t' d) = _
      rw [if_neg ?_]
      · exact h3 t' d (fun y => z ⟨y.1, Or.inl (y.2.elim id False.elim)⟩)
      · intro y
        obtain ⟨_, y1, y2, y3⟩ := y
        exact z ⟨by omega, Or.inr ⟨y2, y3⟩⟩
    · intro d z
      exact if_pos ⟨rfl, hT, z.1, z.2⟩
    · intro r hr
      by_cases e : r = i
      · rw [e, tt_up_s]; omega
      · rw [tt_up_n e]; exact h5 r (by omega)
    · intro z
      obtain ⟨q, hq, r⟩ := h11 z
      refine ⟨q, hq, ?_⟩
      rw [tt_up_n (by omega)]
      exact r
    · intro z
      obtain ⟨q, hq, r⟩ := h12 z
      refine ⟨q, hq, ?_⟩
      rw [tt_up_n (by omega)]
      exact r
  · intro d d1 d2 d3
    rw [← h3 t d (fun y => d3 (y.2.elim id False.elim))]
    exact h1.2.1 i (E + 1) t d (by omega) (by omega) ⟨hT, d1, d2⟩ ⟨by omega, Or.inl hC⟩
theorem tt_CS_left0 (h : tt_CS E R K t a b (i + 1) i i (fun d => F i ≤ d ∧ d < L i) R' T F L B C V) (hF : F i < b) (ha : a ≤ F i) : tt_CS E R K t a b (i + 1) (i + 1) i (fun d => b ≤ d ∧ d < L i) R' T F L B C V := by
  obtain ⟨M, x, y, h1, h2, h3, h4, h5, h6, h7, h8, h9, h10, h11, h12⟩ := h
  refine ⟨M, x, y, h1, h2, ?_, ?_, h5, h6, h7, h8, h9, h10, ?_, h12⟩
  · intro t' d z
    refine h3 t' d (fun y => z ⟨y.1, ?_⟩)
    obtain ⟨_, y⟩ := y
    omega
  · intro d z
    exact h4 d ⟨by omega, z.2⟩
  · intro z
    obtain ⟨q, hq, r⟩ := h11 z
    exact ⟨q, by omega, r⟩
theorem tt_CS_left (h : tt_CS E R K t a b (i + 1) i i (fun d => F i ≤ d ∧ d < L i) R' T F L B C V) (hi : i < R) (ht : t < 6) (hT : T i = t) (hC : C i = E + 1) (hb : b ≤ 100) (hab : a < b) (hL : a < L i) (ha : F i < a) (hv : ∀ d, F i ≤ d → d < L i → ¬ (a ≤ d ∧ d < b) → K E t d = some (V i)) : tt_CS E R K t a b (i + 1) (i + 1) i (fun d => b ≤ d ∧ d < L i) (R' + 1) (tt_up T R' t) (tt_up F R' (F i)) (tt_up L R' a) (tt_up B R' (E + 1)) (tt_up C R' 0) (upd V R' (V i)) := by
  obtain ⟨M, x, y, h1, h2, h3, h4, h5, h6, h7, h8, h9, h10, h11, h12⟩ := h
  have hx : x = 0 := by
    by_cases z : x = 1
    · obtain ⟨q, q1, q2, q3, q4, q5⟩ := h11 z
      have b1 := h7 q (by omega)
      have b2 := h7 i hi
      have := h1.2.2.2 q i E t (a - 1) (by omega) (by omega) (by omega) ⟨q2, by omega, by omega⟩ ⟨hT, by omega, by omega⟩ ⟨b1, Or.inr (by omega)⟩ ⟨b2, Or.inr (by omega)⟩
      omega
    · omega
  refine ⟨fun n t' d => if n = E + 1 ∧ t' = t ∧ F i ≤ d ∧ d < a then some (V i) else M n t' d, 1, y, ?_, ?_, ?_, ?_, ?_, ?_, ?_, by omega, by omega, h10, ?_, ?_⟩
  · exact tt_open h1 (by omega) ht ha (by omega) (fun d d1 d2 => h4 d ⟨d1, by omega⟩) (fun n t' d hn z => if_neg z) (fun d d1 d2 => if_pos ⟨rfl, rfl, d1, d2⟩)
  · intro n t' d hn
    show (if n = E + 1 ∧ t' = t ∧ F i ≤ d ∧ d < a then some (V i) else M n t' d) = _
    rw [if_neg (by omega)]
    exact h2 n t' d hn
  · intro t' d z
    show (if E + 1 = E + 1 ∧ t' = t ∧ F i ≤ d ∧ d < a then some (V i) else M (E + 1) t' d) = _
    by_cases w : t' = t ∧ F i ≤ d ∧ d < a
    · rw [if_pos ⟨rfl, w⟩, w.1, hv d w.2.1 (by omega) (by omega)]
    · rw [if_neg (fun u => w u.2)]
      refine h3 t' d (fun y => ?_)
      obtain ⟨y1, y2⟩ := y
      exact z ⟨y1, by omega⟩
  · intro d z
    show (if E + 1 = E + 1 ∧ t = t ∧ F i ≤ d ∧ d < a then some (V i) else M (E + 1) t d) = _
    have z1 : b ≤ d := z.1
    rw [if_neg (by omega)]
    exact h4 d ⟨by omega, z.2⟩
  · intro r hr
    rw [tt_up_n (by omega), tt_up_n (by omega), tt_up_n (by omega), tt_up_n (by omega)]
    exact h5 r hr
  · intro r hr hr'
    by_cases e : r = R'
    · rw [e, tt_up_s]; omega
    · rw [tt_up_n e, tt_up_n e]; exact h6 r hr (by omega)
  · intro r hr
    rw [tt_up_n (by omega)]
    exact h7 r hr
  · intro _
    refine ⟨i, by omega, ?_⟩
    rw [tt_up_n (by omega), tt_up_n (by omega), tt_up_n (by omega), tt_up_n (by omega)]
    exact ⟨hT, ha, hL, hC⟩
  · intro z
    obtain ⟨q, hq, r⟩ := h12 z
    refine ⟨q, hq, ?_⟩
    rw [tt_up_n (by omega), tt_up_n (by omega), tt_up_n (by omega), tt_up_n (by omega)]
    exact r
theorem tt_CS_right0 (h : tt_CS E R K t a b (i + 1) (i + 1) i (fun d => b ≤ d ∧ d < L i) R' T F L B C V) (hb : L i ≤ b) : tt_CS E R K t a b (i + 1) (i + 1) (i + 1) (fun _ => False) R' T F L B C V := by
  obtain ⟨M, x, y, h1, h2, h3, h4, h5, h6, h7, h8, h9, h10, h11, h12⟩ := h
  refine ⟨M, x, y, h1, h2, ?_, ?_, h5, h6, h7, h8, h9, h10, h11, ?_⟩
  · intro t' d z
    refine h3 t' d (fun y => z ⟨y.1, Or.inl ?_⟩)
    obtain ⟨_, y⟩ := y
    omega
  · intro d z
    exact z.elim
  · intro z
    obtain ⟨q, hq, r⟩ := h12 z
    exact ⟨q, by omega, r⟩
theorem tt_CS_right (h : tt_CS E R K t a b (i + 1) (i + 1) i (fun d => b ≤ d ∧ d < L i) R' T F L B C V) (hi : i < R) (ht : t < 6) (hT : T i = t) (hC : C i = E + 1) (hF : F i < b) (hb : b < L i) (hv : ∀ d, b ≤ d → d < L i → K E t d = some (V i)) : tt_CS E R K t a b (i + 1) (i + 1) (i + 1) (fun _ => False) (R' + 1) (tt_up T R' t) (tt_up F R' b) (tt_up L R' (L i)) (tt_up B R' (E + 1)) (tt_up C R' 0) (upd V R' (V i)) := by
  obtain ⟨M, x, y, h1, h2, h3, h4, h5, h6, h7, h8, h9, h10, h11, h12⟩ := h
  have hL := h1.1 i (by omega)
  have hy : y = 0 := by
    by_cases z : y = 1
    · obtain ⟨q, q1, q2, q3, q4, q5⟩ := h12 z
      have b1 := h7 q (by omega)
      have b2 := h7 i hi
      have := h1.2.2.2 q i E t b (by omega) (by omega) (by omega) ⟨q2, by omega, by omega⟩ ⟨hT, by omega, by omega⟩ ⟨b1, Or.inr (by omega)⟩ ⟨b2, Or.inr (by omega)⟩
      omega
    · omega
  refine ⟨fun n t' d => if n = E + 1 ∧ t' = t ∧ b ≤ d ∧ d < L i then some (V i) else M n t' d, x, 1, ?_, ?_, ?_, ?_, ?_, ?_, ?_, by omega, h9, by omega, ?_, ?_⟩
  · exact tt_open h1 (by omega) ht hb (by omega) (fun d d1 d2 => h4 d ⟨d1, d2⟩) (fun n t' d hn z => if_neg z) (fun d d1 d2 => if_pos ⟨rfl, rfl, d1, d2⟩)
  · intro n t' d hn
    show (if n = E + 1 ∧ t' = t ∧ b ≤ d ∧ d < L i then some (V i) else M n t' d) = _
    rw [if_neg (by omega)]
    exact h2 n t' d hn
  · intro t' d z
    show (if E + 1 = E + 1 ∧ t' = t ∧ b ≤ d ∧ d < L i then some (V i) else M (E + 1) t' d) = _
    by_cases w : t' = t ∧ b ≤ d ∧ d < L i
    · rw [if_pos ⟨rfl, w⟩, w.1, hv d w.2.1 w.2.2]
    · rw [if_neg (fun u => w u.2)]
      refine h3 t' d (fun y => ?_)
      obtain ⟨y1, y2⟩ := y
      exact z ⟨y1, Or.inl (by omega)⟩
  · intro d z
    exact z.elim
  · intro r hr
    rw [tt_up_n (by omega), tt_up_n (by omega), tt_up_n (by omega), tt_up_n (by omega)]
    exact h5 r hr
  · intro r hr hr'
    by_cases e : r = R'
    · rw [e, tt_up_s, tt_up_s]; omega
    · rw [tt_up_n e, tt_up_n e]; exact h6 r hr (by omega)
  · intro r hr
    rw [tt_up_n (by omega)]
    exact h7 r hr
  · intro z
    obtain ⟨q, hq, r⟩ := h11 z
    refine ⟨q, hq, ?_⟩
    rw [tt_up_n (by omega), tt_up_n (by omega), tt_up_n (by omega), tt_up_n (by omega)]
    exact r
  · intro _
    refine ⟨i, by omega, ?_⟩
    rw [tt_up_n (by omega), tt_up_n (by omega), tt_up_n (by omega), tt_up_n (by omega)]
    exact ⟨hT, hF, hb, hC⟩
theorem tt_CS_end (h : tt_CS E R K t a b R R R (fun _ => False) R' T F L B C V) (k1 : ∀ n t' d, n ≤ E → K' n t' d = K n t' d) (k2 : ∀ t' d, ¬ (t' = t ∧ a ≤ d ∧ d < b) → K' (E + 1) t' d = K E t' d) (k3 : ∀ d, a ≤ d → d < b → K' (E + 1) t d = none) : R' ≤ R + 2 ∧ tt_RX (E + 1) R' T F L B C V K' := by
  obtain ⟨M, x, y, h1, h2, h3, h4, h5, h6, h7, h8, h9, h10, h11, h12⟩ := h
  refine ⟨by omega, tt_RXc h1 ?_⟩
  intro n t' d hn
  by_cases e : n ≤ E
  · rw [k1 n t' d e, h2 n t' d e]
  · have e' : n = E + 1 := by omega
    subst e'
    by_cases w : t' = t ∧ a ≤ d ∧ d < b
    · obtain ⟨w1, w2, w3⟩ := w
      subst w1
      rw [k3 d w2 w3]
      cases z : M (E + 1) t' d with
      | none => rfl
      | some v =>
        exfalso
        obtain ⟨r, hr, hc, hk⟩ := h1.2.2.1 (E + 1) t' d v (Nat.le_refl _) z
        obtain ⟨c1, c2, c3⟩ := hc
        obtain ⟨g1, g2⟩ := hk
        have r0 := h1.1 r hr
        by_cases u : r < R
        · exact h5 r u ⟨c1, by omega, by omega, by omega⟩
        · have := h6 r (by omega) hr
          omega
    · rw [k2 t' d w, h3 t' d (fun y => w ⟨y.1, y.2.elim id False.elim⟩)]
end
end
section
/-! the component's walks: checks, a row's being known, a row's opening, the cut, an entry -/
theorem tt_cl (n : Nat) (h : n < 1000) : (nI n).toNatClampNeg = n := nI_clamp (by omega)
theorem tt_bT_y {post : Int32 → Prop} {t : Nat} (ht : t < 6) (h : post 0) : wpX_badThing post (nI t) := by
  unfold wpX_badThing
  exact br_f (nI_pos (by omega)) (br_t (nI_lt (b := 6) ht (by decide)) h)
theorem tt_bT_n {post : Int32 → Prop} {p : Int32} (hn : ¬ ∃ t, t < 6 ∧ p = nI t) (h : post 1) : wpX_badThing post p := by
  unfold wpX_badThing
  refine br_c (fun _ => h) (fun z => br_f ?_ h)
  rcases pk_ix p (n := 6) (by decide) with y | y | ⟨j, hj, e⟩
  · exact absurd y z
  · exact Int32.not_lt.mpr y
  · exact absurd ⟨j, hj, e⟩ hn
theorem tt_bd_y {post : Int32 → Prop} {d : Nat} (hd : d < 100) (h : post 0) : wpX_badDay post (nI d) := by
  unfold wpX_badDay
  exact br_f (nI_pos (by omega)) (br_t (nI_lt (b := 100) hd (by decide)) h)
theorem tt_bd_n {post : Int32 → Prop} {p : Int32} (hn : ¬ ∃ d, d < 100 ∧ p = nI d) (h : post 1) : wpX_badDay post p := by
  unfold wpX_badDay
  refine br_c (fun _ => h) (fun z => br_f ?_ h)
  rcases pk_ix p (n := 100) (by decide) with y | y | ⟨j, hj, e⟩
  · exact absurd y z
  · exact Int32.not_lt.mpr y
  · exact absurd ⟨j, hj, e⟩ hn
theorem tt_bD_y {post : Int32 → Prop} {p : Int32} {a b : Nat} (e1 : p &&& 127 = nI a) (e2 : (p >>> ((7 : Int32) &&& 31)) &&& 127 = nI b) (hab : a < b) (hb : b ≤ 100) (h : post 0) : wpX_badDays post p := by
  unfold wpX_badDays
  exact nm_r e1 (nm_r e2 (br_f (nI_ge hab (by omega)) (br_t (nI_le (b := 100) hb (by decide)) h)))
theorem tt_bD_n {post : Int32 → Prop} {p : Int32} {a b : Nat} (e1 : p &&& 127 = nI a) (e2 : (p >>> ((7 : Int32) &&& 31)) &&& 127 = nI b) (ha : a < 128) (hb : b < 128) (hn : ¬ (a < b ∧ b ≤ 100)) (h : post 1) : wpX_badDays post p := by
  unfold wpX_badDays
  exact nm_r e1 (nm_r e2 (pk_le b a (fun _ => h) (fun z => br_f (nI_ge (a := 100) (by omega) (by omega)) h)))
section
variable {post : Int32 → Prop} {E R r n : Nat} {ff ft fv ls : Int32} {T F L B C : Nat → Nat} {V lf lt lv : Nat → Int32}
theorem tt_bE_y (hE : E ≤ 40) (hn : n ≤ E) (h : post 0) : wpX_badEntry post (nI E, nI R, ff, ft, fv, ls, tt_aI T, tt_aI F, tt_aI L, V, tt_aI B, tt_aI C, lf, lt, lv) (nI n) := by
  unfold wpX_badEntry
  dsimp only
  exact br_f (nI_pos (by omega)) (br_t (nI_le hn (by omega)) h)
theorem tt_bE_n {p : Int32} (hE : E ≤ 40) (hn : ¬ ∃ n, n ≤ E ∧ p = nI n) (h : post 1) : wpX_badEntry post (nI E, nI R, ff, ft, fv, ls, tt_aI T, tt_aI F, tt_aI L, V, tt_aI B, tt_aI C, lf, lt, lv) p := by
  unfold wpX_badEntry
  dsimp only
  refine br_c (fun _ => h) (fun z => br_f (fun y => ?_) h)
  obtain ⟨j, hj, e⟩ := nI_of z
  rw [e, nI_leI hj (by omega)] at y
  exact hn ⟨j, y, e⟩
theorem tt_isKnown (hr : r < 124) (hn : n < 1000) (hB : B r < 1000) (hC : C r < 1000) (h1 : tt_kn B C r n → post 1) (h0 : ¬ tt_kn B C r n → post 0) : wpX_isKnown post (nI E, nI R, ff, ft, fv, ls, tt_aI T, tt_aI F, tt_aI L, V, tt_aI B, tt_aI C, lf, lt, lv) (nI r) (nI n) := by
  unfold wpX_isKnown
  dsimp only
  rw [tt_cl r (by omega)]
  have hi : vp_in (nI r) 124 := vp_in_nI hr (by decide)
  refine ⟨hi, pk_lt n (B r) (fun z => h0 (fun y => by have := y.1; omega)) (fun z => ⟨hi, pk_eq (C r) 0 (fun y => h1 ⟨z, Or.inl y⟩) (fun y => ⟨hi, pk_le (C r) n (fun w => h0 (fun u => ?_)) (fun w => h1 ⟨z, Or.inr w⟩)⟩)⟩)⟩
  obtain ⟨u1, u2⟩ := u
  omega
end
section
variable {E R t x y : Nat} {v ff ft fv ls : Int32} {T F L B C : Nat → Nat} {V lf lt lv : Nat → Int32}
theorem tt_openW {post : SX → Prop} (hR : R < 124) (h : post (nI E, nI (R + 1), ff, ft, fv, ls, tt_aI (tt_up T R t), tt_aI (tt_up F R x), tt_aI (tt_up L R y), upd V R v, tt_aI (tt_up B R E), tt_aI (tt_up C R 0), lf, lt, lv)) : wpX_open post (nI E, nI R, ff, ft, fv, ls, tt_aI T, tt_aI F, tt_aI L, V, tt_aI B, tt_aI C, lf, lt, lv) (nI t) (nI x) (nI y) v := by
  unfold wpX_open
  dsimp only
  rw [tt_cl R (by omega)]
  have hi : vp_in (nI R) 124 := vp_in_nI hR (by decide)
  exact ⟨hi, nm_r (tt_aI_up T R t) ⟨hi, nm_r (tt_aI_up F R x) ⟨hi, nm_r (tt_aI_up L R y) ⟨hi, nm_e ⟨hi, nm_r (tt_aI_up B R E) ⟨hi, nm_r (tt_aI_up C R 0) (nm_r (nI_1 R) h)⟩⟩⟩⟩⟩⟩
end
section
variable {post : SX → Prop} {E R t a b : Nat} {ff ft fv ls : Int32} {lf lt lv : Nat → Int32} {K K' : Nat → Nat → Nat → Option Int32}
theorem tt_cut_join {J : Int32 → Int32 → Int32 → Int32 → Int32 → Int32 → Int32 → (Nat → Int32) → (Nat → Int32) → (Nat → Int32) → (Nat → Int32) → (Nat → Int32) → (Nat → Int32) → (Nat → Int32) → (Nat → Int32) → (Nat → Int32) → Prop} {i : Nat}
    (hE : E < 40) (hR : R ≤ 117) (ht : t < 6) (hb : b ≤ 100) (hi : i < R)
    (hJ : ∀ (R' : Nat) (T F L B C : Nat → Nat) (V : Nat → Int32), tt_CS E R K t a b (i + 1) (i + 1) (i + 1) (fun _ => False) R' T F L B C V → J (nI (i + 1)) (nI (E + 1)) (nI R') ff ft fv ls (tt_aI T) (tt_aI F) (tt_aI L) V (tt_aI B) (tt_aI C) lf lt lv)
    {R' : Nat} {T F L B C : Nat → Nat} {V : Nat → Int32}
    (h : tt_CS E R K t a b (i + 1) (i + 1) i (fun d => b ≤ d ∧ d < L i) R' T F L B C V)
    (hT : T i = t) (hC : C i = E + 1) (hF : F i < b) (hv : ∀ d, b ≤ d → d < L i → K E t d = some (V i)) :
    wX_cutOut_101 post J (nI t) (nI a) (nI b) (nI R) (nI i) (nI (E + 1)) (nI R') ff ft fv ls (tt_aI T) (tt_aI F) (tt_aI L) V (tt_aI B) (tt_aI C) lf lt lv := by
  obtain ⟨b1, b2, b3⟩ := tt_CS_b h
  have z := b3 i (by omega)
  have hin : vp_in (nI i) 124 := vp_in_nI (by omega) (by decide)
  unfold wX_cutOut_101
  rw [tt_cl i (by omega)]
  refine ⟨hin, pk_le (L i) b (fun w => nm_r (nI_1 i) ?_) (fun w => ⟨hin, hin, ?_⟩)⟩
  · exact hJ R' T F L B C V (tt_CS_right0 h w)
  · refine tt_openW (x := b) (y := L i) (by omega) ?_
    dsimp only
    exact nm_r (nI_1 i) (hJ _ _ _ _ _ _ _ (tt_CS_right h hi ht hT hC hF w hv))
theorem tt_cut_loop (hE : E < 40) (hR : R ≤ 117) (ht : t < 6) (hab : a < b) (hb : b ≤ 100)
    (hp : ∀ (R' : Nat) (T F L B C : Nat → Nat) (V : Nat → Int32), tt_CS E R K t a b R R R (fun _ => False) R' T F L B C V → post (nI (E + 1), nI R', ff, ft, fv, ls, tt_aI T, tt_aI F, tt_aI L, V, tt_aI B, tt_aI C, lf, lt, lv)) :
    ∀ (k i : Nat), i + k = R → ∀ (R' : Nat) (T F L B C : Nat → Nat) (V : Nat → Int32), tt_CS E R K t a b i i i (fun _ => False) R' T F L B C V → wX_cutOut_9 post (nI t) (nI a) (nI b) (nI R) (k + 1) (nI i) (nI (E + 1)) (nI R') ff ft fv ls (tt_aI T) (tt_aI F) (tt_aI L) V (tt_aI B) (tt_aI C) lf lt lv := by
  intro k
  induction k with
  | zero =>
    intro i hi R' T F L B C V h
    have e : i = R := by omega
    subst e
    rw [wX_cutOut_9]
    dsimp only
    exact br_t (nI_le (Nat.le_refl i) (by omega)) (hp R' T F L B C V h)
  | succ k ih =>
    intro i hi R' T F L B C V h
    obtain ⟨b1, b2, b3⟩ := tt_CS_b h
    have z := b3 i (by omega)
    have hin : vp_in (nI i) 124 := vp_in_nI (by omega) (by decide)
    have sk : ¬ (T i = t ∧ C i = 0 ∧ F i < b ∧ a < L i) → ∀ x : Int32, x = nI i + 1 → wX_cutOut_9 post (nI t) (nI a) (nI b) (nI R) (k + 1) x (nI (E + 1)) (nI R') ff ft fv ls (tt_aI T) (tt_aI F) (tt_aI L) V (tt_aI B) (tt_aI C) lf lt lv := fun w => nm_r (nI_1 i) (ih (i + 1) (by omega) R' T F L B C V (tt_CS_skip h w))
    rw [wX_cutOut_9]
    dsimp only
    rw [tt_cl i (by omega)]
    refine br_f (nI_ge (by omega) (by omega)) ⟨hin, pk_eq (T i) t (fun hT => ⟨hin, pk_eq (C i) 0 (fun hC => ⟨hin, pk_le b (F i) (fun w => sk (by omega)) (fun hF => ⟨hin, pk_le (L i) a (fun w => sk (by omega)) (fun hL => ⟨hin, nm_r (tt_aI_up C i (E + 1)) ⟨hin, ?_⟩⟩)⟩)⟩) (fun w => sk (by omega))⟩) (fun w => sk (by omega))⟩
    obtain ⟨h2, hv⟩ := tt_CS_close h (by omega) hT hC hF hL
    have hv2 : ∀ d, b ≤ d → d < L i → K E t d = some (V i) := fun d d1 d2 => hv d (by omega) d2 (by omega)
    refine pk_le a (F i) (fun w => ?_) (fun w => ⟨hin, hin, ?_⟩)
    · exact tt_cut_join hE hR ht hb (by omega) (fun R' T F L B C V h => ih (i + 1) (by omega) R' T F L B C V h) (tt_CS_left0 h2 hF w) hT tt_up_s hF hv2
    · refine tt_openW (x := F i) (y := a) (by omega) ?_
      dsimp only
      have e : i ≠ R' := by omega
      have h3 := tt_CS_left h2 (by omega) ht hT tt_up_s hb hab hL w hv
      refine tt_cut_join hE hR ht hb (by omega) (fun R' T F L B C V h => ih (i + 1) (by omega) R' T F L B C V h) ?_ ?_ ?_ ?_ ?_
      · rw [tt_up_n e]; exact h3
      · rw [tt_up_n e]; exact hT
      · rw [tt_up_n e, tt_up_s]
      · rw [tt_up_n e]; exact hF
      · rw [tt_up_n e, pk_un e]; exact hv2
theorem tt_cutOut {T F L B C : Nat → Nat} {V : Nat → Int32} (h : tt_RX E R T F L B C V K) (hE : E < 40) (hR : R ≤ 117) (ht : t < 6) (hab : a < b) (hb : b ≤ 100)
    (k1 : ∀ n t' d, n ≤ E → K' n t' d = K n t' d) (k2 : ∀ t' d, ¬ (t' = t ∧ a ≤ d ∧ d < b) → K' (E + 1) t' d = K E t' d) (k3 : ∀ d, a ≤ d → d < b → K' (E + 1) t d = none)
    (hp : ∀ (R' : Nat) (T F L B C : Nat → Nat) (V : Nat → Int32), R' ≤ R + 2 → tt_RX (E + 1) R' T F L B C V K' → post (nI (E + 1), nI R', ff, ft, fv, ls, tt_aI T, tt_aI F, tt_aI L, V, tt_aI B, tt_aI C, lf, lt, lv)) :
    wpX_cutOut post (nI (E + 1), nI R, ff, ft, fv, ls, tt_aI T, tt_aI F, tt_aI L, V, tt_aI B, tt_aI C, lf, lt, lv) (nI t) (nI a) (nI b) := by
  unfold wpX_cutOut
  dsimp only
  refine ⟨R + 1, ?_⟩
  refine tt_cut_loop (K := K) hE hR ht hab hb ?_ R 0 (by omega) R T F L B C V (tt_CS_start h)
  intro R' T F L B C V h
  obtain ⟨e1, e2⟩ := tt_CS_end h k1 k2 k3
  exact hp R' T F L B C V e1 e2
end
theorem tt_enter {post : Int32 → SX → Prop} {E R t a b : Nat} {v ff ft fv ls : Int32} {lf lt lv : Nat → Int32} {K K' : Nat → Nat → Nat → Option Int32} {T F L B C : Nat → Nat} {V : Nat → Int32}
    (h : tt_RX E R T F L B C V K) (hE : E < 40) (hR : R ≤ 117) (ht : t < 6) (hab : a < b) (hb : b ≤ 100)
    (k1 : ∀ n t' d, n ≤ E → K' n t' d = K n t' d) (k2 : ∀ t' d, ¬ (t' = t ∧ a ≤ d ∧ d < b) → K' (E + 1) t' d = K E t' d) (k3 : ∀ d, a ≤ d → d < b → K' (E + 1) t d = some v)
    (hp : ∀ (R' : Nat) (T F L B C : Nat → Nat) (V : Nat → Int32), R' ≤ R + 3 → tt_RX (E + 1) R' T F L B C V K' → post (nI (E + 1)) (nI (E + 1), nI R', ff, ft, fv, ls, tt_aI T, tt_aI F, tt_aI L, V, tt_aI B, tt_aI C, lf, lt, lv)) :
    wpX_enter post (nI E, nI R, ff, ft, fv, ls, tt_aI T, tt_aI F, tt_aI L, V, tt_aI B, tt_aI C, lf, lt, lv) (nI t) (nI a) (nI b) v := by
  unfold wpX_enter
  dsimp only
  refine nm_r (nI_1 E) ?_
  refine tt_cutOut (K := K) (K' := fun n t' d => if n = E + 1 ∧ t' = t ∧ a ≤ d ∧ d < b then none else K' n t' d) h hE hR ht hab hb ?_ ?_ ?_ ?_
  · intro n t' d hn
    show (if n = E + 1 ∧ t' = t ∧ a ≤ d ∧ d < b then none else K' n t' d) = _
    rw [if_neg (by omega)]
    exact k1 n t' d hn
  · intro t' d w
    show (if E + 1 = E + 1 ∧ t' = t ∧ a ≤ d ∧ d < b then none else K' (E + 1) t' d) = _
    rw [if_neg (fun u => w u.2)]
    exact k2 t' d w
  · intro d d1 d2
    exact if_pos ⟨rfl, rfl, d1, d2⟩
  · intro R' T F L B C V hR' h'
    refine tt_openW (by omega) ?_
    refine hp _ _ _ _ _ _ _ (by omega) (tt_open h' (by omega) ht hab hb ?_ ?_ k3)
    · intro d d1 d2
      exact if_pos ⟨rfl, rfl, d1, d2⟩
    · intro n t' d hn w
      exact (if_neg w).symm
end
section
/-! looking rows up -/
section
variable {post : Int32 → Prop} {E R n t d : Nat} {ff ft fv ls : Int32} {T F L B C : Nat → Nat} {V lf lt lv : Nat → Int32} {K : Nat → Nat → Nat → Option Int32}
theorem tt_rowAt_loop (hE : E ≤ 40) (hR : R ≤ 120) (h0 : tt_R0 E R T F L B C) (hn : n < 1000) (ht : t < 1000) (hd : d < 1000)
    (hs : ∀ r, r < R → tt_cv T F L r t d → tt_kn B C r n → post (nI r)) (hno : (∀ r, r < R → ¬ (tt_cv T F L r t d ∧ tt_kn B C r n)) → post (-1)) :
    ∀ k i, i + k = R → (∀ r, r < i → ¬ (tt_cv T F L r t d ∧ tt_kn B C r n)) → wX_rowAt_3 post (nI n) (nI t) (nI d) (nI E) (nI R) ff ft fv ls (tt_aI T) (tt_aI F) (tt_aI L) V (tt_aI B) (tt_aI C) lf lt lv (k + 1) (nI i) := by
  intro k
  induction k with
  | zero =>
    intro i hi h
    have e : i = R := by omega
    subst e
    rw [wX_rowAt_3]
    dsimp only
    exact br_t (nI_le (Nat.le_refl i) (by omega)) (hno h)
  | succ k ih =>
    intro i hi h
    have z := h0 i (by omega)
    have hin : vp_in (nI i) 124 := vp_in_nI (by omega) (by decide)
    have sk : ¬ (tt_cv T F L i t d ∧ tt_kn B C i n) → ∀ x : Int32, x = nI i + 1 → wX_rowAt_3 post (nI n) (nI t) (nI d) (nI E) (nI R) ff ft fv ls (tt_aI T) (tt_aI F) (tt_aI L) V (tt_aI B) (tt_aI C) lf lt lv (k + 1) x := by
      intro w
      refine nm_r (nI_1 i) (ih (i + 1) (by omega) (fun r hr => ?_))
      by_cases e : r = i
      · rw [e]; exact w
      · exact h r (by omega)
    rw [wX_rowAt_3]
    dsimp only
    rw [tt_cl i (by omega)]
    unfold wX_rowAt_49 wX_rowAt_50
    refine br_f (nI_ge (by omega) (by omega)) ⟨hin, pk_eq (T i) t (fun hT => ⟨hin, pk_lt d (F i) (fun w => br_t rfl (sk (fun y => by have := y.1.2.1; omega))) (fun hF => ⟨hin, pk_le (L i) d (fun w => br_t rfl (sk (fun y => by have := y.1.2.2; omega))) (fun hL => br_f (by decide) ?_)⟩)⟩) (fun w => br_t rfl (sk (fun y => w y.1.1)))⟩
    exact tt_isKnown (by omega) hn (by omega) (by omega) (fun w => br_f (by decide) (hs i (by omega) ⟨hT, hF, hL⟩ w)) (fun w => br_t rfl (sk (fun y => w y.2)))
theorem tt_rowAt (hE : E ≤ 40) (hR : R ≤ 120) (h0 : tt_R0 E R T F L B C) (hn : n < 1000) (ht : t < 1000) (hd : d < 1000)
    (hs : ∀ r, r < R → tt_cv T F L r t d → tt_kn B C r n → post (nI r)) (hno : (∀ r, r < R → ¬ (tt_cv T F L r t d ∧ tt_kn B C r n)) → post (-1)) :
    wpX_rowAt post (nI E, nI R, ff, ft, fv, ls, tt_aI T, tt_aI F, tt_aI L, V, tt_aI B, tt_aI C, lf, lt, lv) (nI n) (nI t) (nI d) := by
  unfold wpX_rowAt
  dsimp only
  exact ⟨R + 1, tt_rowAt_loop hE hR h0 hn ht hd hs hno R 0 (by omega) (fun r hr => by omega)⟩
theorem tt_rowK (h : tt_RX E R T F L B C V K) (hE : E ≤ 40) (hR : R ≤ 120) (hn : n ≤ E) (ht : t < 1000) (hd : d < 1000)
    (hs : ∀ r, r < R → tt_cv T F L r t d → tt_kn B C r n → K n t d = some (V r) → post (nI r)) (hno : K n t d = none → post (-1)) :
    wpX_rowAt post (nI E, nI R, ff, ft, fv, ls, tt_aI T, tt_aI F, tt_aI L, V, tt_aI B, tt_aI C, lf, lt, lv) (nI n) (nI t) (nI d) := by
  refine tt_rowAt hE hR h.1 (by omega) ht hd (fun r hr hc hk => hs r hr hc hk (h.2.1 r n t d hr hn hc hk)) (fun w => hno ?_)
  cases e : K n t d with
  | none => rfl
  | some v =>
    obtain ⟨r, hr, hc, hk⟩ := h.2.2.1 n t d v hn e
    exact absurd ⟨hc, hk⟩ (w r hr)
end
def tt_bI : Option Nat → Int32
  | none => -1
  | some b => nI b
def tt_Best (P : Nat → Prop) (F : Nat → Nat) (i : Nat) : Option Nat → Prop
  | none => ∀ r, r < i → ¬ P r
  | some b => b < i ∧ P b ∧ ∀ r, r < i → P r → F b ≤ F r
section
variable {P : Nat → Prop} {F : Nat → Nat} {i b : Nat} {o : Option Nat}
theorem tt_Best_skip (h : tt_Best P F i o) (hn : ¬ P i) : tt_Best P F (i + 1) o := by
  cases o with
  | none =>
    intro r hr
    by_cases e : r = i
    · rw [e]; exact hn
    · exact h r (by omega)
  | some b =>
    obtain ⟨h1, h2, h3⟩ := h
    refine ⟨by omega, h2, fun r hr hp => ?_⟩
    by_cases e : r = i
    · rw [e] at hp; exact absurd hp hn
    · exact h3 r (by omega) hp
theorem tt_Best_first (h : tt_Best P F i none) (hp : P i) : tt_Best P F (i + 1) (some i) := by
  refine ⟨by omega, hp, fun r hr hr' => ?_⟩
  by_cases e : r = i
  · rw [e]; exact Nat.le_refl _
  · exact absurd hr' (h r (by omega))
theorem tt_Best_less (h : tt_Best P F i (some b)) (hp : P i) (hl : F i < F b) : tt_Best P F (i + 1) (some i) := by
  obtain ⟨h1, h2, h3⟩ := h
  refine ⟨by omega, hp, fun r hr hr' => ?_⟩
  by_cases e : r = i
  · rw [e]; exact Nat.le_refl _
  · have := h3 r (by omega) hr'
    omega
theorem tt_Best_keep (h : tt_Best P F i (some b)) (hl : F b ≤ F i) : tt_Best P F (i + 1) (some b) := by
  obtain ⟨h1, h2, h3⟩ := h
  refine ⟨by omega, h2, fun r hr hr' => ?_⟩
  by_cases e : r = i
  · rw [e]; exact hl
  · exact h3 r (by omega) hr'
end
/-- a row of the thing, known as of n, that begins at or behind day s -/
def tt_PF (T F B C : Nat → Nat) (n t s r : Nat) : Prop := T r = t ∧ s ≤ F r ∧ tt_kn B C r n
section
variable {post : Int32 → Prop} {E R n t s : Nat} {ff ft fv ls : Int32} {T F L B C : Nat → Nat} {V lf lt lv : Nat → Int32}
theorem tt_rowFrom_loop (hE : E ≤ 40) (hR : R ≤ 120) (h0 : tt_R0 E R T F L B C) (hn : n < 1000) (ht : t < 1000) (hs : s < 1000)
    (hp : ∀ o, tt_Best (tt_PF T F B C n t s) F R o → post (tt_bI o)) :
    ∀ k i o, i + k = R → tt_Best (tt_PF T F B C n t s) F i o → wX_rowFrom_6 post (nI n) (nI t) (nI s) (nI E) (nI R) ff ft fv ls (tt_aI T) (tt_aI F) (tt_aI L) V (tt_aI B) (tt_aI C) lf lt lv (k + 1) (tt_bI o) (nI i) := by
  intro k
  induction k with
  | zero =>
    intro i o hi h
    have e : i = R := by omega
    subst e
    rw [wX_rowFrom_6]
    dsimp only
    exact br_t (nI_le (Nat.le_refl i) (by omega)) (hp o h)
  | succ k ih =>
    intro i o hi h
    have z := h0 i (by omega)
    have hin : vp_in (nI i) 124 := vp_in_nI (by omega) (by decide)
    have tk : tt_Best (tt_PF T F B C n t s) F (i + 1) (some i) → ∀ x : Int32, x = nI i + 1 → wX_rowFrom_6 post (nI n) (nI t) (nI s) (nI E) (nI R) ff ft fv ls (tt_aI T) (tt_aI F) (tt_aI L) V (tt_aI B) (tt_aI C) lf lt lv (k + 1) (nI i) x := fun w => nm_r (nI_1 i) (ih (i + 1) (some i) (by omega) w)
    have sk : tt_Best (tt_PF T F B C n t s) F (i + 1) o → ∀ x : Int32, x = nI i + 1 → wX_rowFrom_6 post (nI n) (nI t) (nI s) (nI E) (nI R) ff ft fv ls (tt_aI T) (tt_aI F) (tt_aI L) V (tt_aI B) (tt_aI C) lf lt lv (k + 1) (tt_bI o) x := fun w => nm_r (nI_1 i) (ih (i + 1) o (by omega) w)
    have sn : ¬ tt_PF T F B C n t s i → ∀ x : Int32, x = nI i + 1 → wX_rowFrom_6 post (nI n) (nI t) (nI s) (nI E) (nI R) ff ft fv ls (tt_aI T) (tt_aI F) (tt_aI L) V (tt_aI B) (tt_aI C) lf lt lv (k + 1) (tt_bI o) x := fun w => sk (tt_Best_skip h w)
    rw [wX_rowFrom_6]
    dsimp only
    rw [tt_cl i (by omega)]
    unfold wX_rowFrom_63 wX_rowFrom_59 wX_rowFrom_64
    refine br_f (nI_ge (by omega) (by omega)) ⟨hin, pk_eq (T i) t (fun hT => ⟨hin, pk_lt (F i) s (fun w => br_t rfl (sn (fun y => by have := y.2.1; omega))) (fun hF => ?_)⟩) (fun w => br_t rfl (sn (fun y => w y.1)))⟩
    cases o with
    | none =>
      have m1 : tt_bI none < 0 := by show (-1 : Int32) < 0; decide
      refine br_t m1 (br_f (by decide) ?_)
      exact tt_isKnown (by omega) hn (by omega) (by omega) (fun w => br_f (by decide) (tk (tt_Best_first h ⟨hT, hF, w⟩))) (fun w => br_t rfl (sn (fun y => w y.2.2)))
    | some b =>
      have hb : b < i := h.1
      have zb := h0 b (by omega)
      have p1 : ¬ tt_bI (some b) < 0 := nI_pos (by omega)
      have e1 : (tt_bI (some b)).toNatClampNeg = b := nI_clamp (by omega)
      have i1 : vp_in (tt_bI (some b)) 124 := vp_in_nI (by omega) (by decide)
      rw [e1]
      refine br_f p1 ⟨hin, i1, pk_le (F b) (F i) (fun w => br_t rfl (sk (tt_Best_keep h w))) (fun w => br_f (by decide) ?_)⟩
      exact tt_isKnown (by omega) hn (by omega) (by omega) (fun u => br_f (by decide) (tk (tt_Best_less h ⟨hT, hF, u⟩ w))) (fun u => br_t rfl (sn (fun y => u y.2.2)))
theorem tt_rowFrom (hE : E ≤ 40) (hR : R ≤ 120) (h0 : tt_R0 E R T F L B C) (hn : n < 1000) (ht : t < 1000) (hs : s < 1000)
    (hp : ∀ o, tt_Best (tt_PF T F B C n t s) F R o → post (tt_bI o)) :
    wpX_rowFrom post (nI E, nI R, ff, ft, fv, ls, tt_aI T, tt_aI F, tt_aI L, V, tt_aI B, tt_aI C, lf, lt, lv) (nI n) (nI t) (nI s) := by
  unfold wpX_rowFrom
  dsimp only
  exact ⟨R + 1, tt_rowFrom_loop hE hR h0 hn ht hs hp R 0 none (by omega) (fun r hr => by omega)⟩
end
section
variable {post : Int32 → Prop} {E R n t d : Nat} {ff ft fv ls : Int32} {T F L B C : Nat → Nat} {V lf lt lv : Nat → Int32}
/-- no border of a known row of the thing lies strictly between s and bo -/
def tt_NB (T F L B C : Nat → Nat) (n t s bo i : Nat) : Prop := ∀ r, r < i → T r = t → tt_kn B C r n → (F r ≤ s ∨ bo ≤ F r) ∧ (L r ≤ s ∨ bo ≤ L r)
theorem tt_border_loop (hE : E ≤ 40) (hR : R ≤ 120) (h0 : tt_R0 E R T F L B C) (hn : n < 1000) (ht : t < 1000) (hd : d < 100)
    (hp : ∀ bo, d < bo → bo ≤ 100 → tt_NB T F L B C n t d bo R → post (nI bo)) :
    ∀ k i bo, i + k = R → d < bo → bo ≤ 100 → tt_NB T F L B C n t d bo i → wX_borderAfter_7 post (nI n) (nI t) (nI d) (nI E) (nI R) ff ft fv ls (tt_aI T) (tt_aI F) (tt_aI L) V (tt_aI B) (tt_aI C) lf lt lv (k + 1) (nI bo) (nI i) := by
  intro k
  induction k with
  | zero =>
    intro i bo hi h1 h2 h
    have e : i = R := by omega
    subst e
    rw [wX_borderAfter_7]
    dsimp only
    exact br_t (nI_le (Nat.le_refl i) (by omega)) (hp bo h1 h2 h)
  | succ k ih =>
    intro i bo hi h1 h2 h
    have z := h0 i (by omega)
    have hin : vp_in (nI i) 124 := vp_in_nI (by omega) (by decide)
    have go : ∀ bo', d < bo' → bo' ≤ bo → (T i = t → tt_kn B C i n → (F i ≤ d ∨ bo' ≤ F i) ∧ (L i ≤ d ∨ bo' ≤ L i)) → ∀ x : Int32, x = nI i + 1 → wX_borderAfter_7 post (nI n) (nI t) (nI d) (nI E) (nI R) ff ft fv ls (tt_aI T) (tt_aI F) (tt_aI L) V (tt_aI B) (tt_aI C) lf lt lv (k + 1) (nI bo') x := by
      intro bo' c1 c2 c3
      refine nm_r (nI_1 i) (ih (i + 1) bo' (by omega) c1 (by omega) (fun r hr r1 r2 => ?_))
      by_cases e : r = i
      · rw [e] at r1 r2 ⊢; exact c3 r1 r2
      · have := h r (by omega) r1 r2
        omega
    have jn : ∀ bo', d < bo' → bo' ≤ bo → (F i ≤ d ∨ bo' ≤ F i) → wX_borderAfter_69 post (wX_borderAfter_7 post (nI n) (nI t) (nI d) (nI E) (nI R) ff ft fv ls (tt_aI T) (tt_aI F) (tt_aI L) V (tt_aI B) (tt_aI C) lf lt lv (k + 1)) (nI n) (nI t) (nI d) (nI bo') (nI i) (nI E) (nI R) ff ft fv ls (tt_aI T) (tt_aI F) (tt_aI L) V (tt_aI B) (tt_aI C) lf lt lv := by
      intro bo' c1 c2 c3
      unfold wX_borderAfter_69
      rw [tt_cl i (by omega)]
      refine ⟨hin, pk_le (L i) d (fun w => go bo' c1 c2 (fun _ _ => by omega)) (fun w => ⟨hin, pk_le bo' (L i) (fun u => go bo' c1 c2 (fun _ _ => by omega)) (fun u => ⟨hin, nm_e (go (L i) (by omega) (by omega) (fun _ _ => by omega))⟩)⟩)⟩
    rw [wX_borderAfter_7]
    dsimp only
    rw [tt_cl i (by omega)]
    refine br_f (nI_ge (by omega) (by omega)) ⟨hin, pk_eq (T i) t (fun hT => ?_) (fun w => go bo h1 (Nat.le_refl _) (fun y => absurd y w))⟩
    refine tt_isKnown (by omega) hn (by omega) (by omega) (fun w => br_f (by decide) ⟨hin, pk_le (F i) d (fun u => jn bo h1 (Nat.le_refl _) (Or.inl u)) (fun u => ⟨hin, pk_le bo (F i) (fun y => jn bo h1 (Nat.le_refl _) (Or.inr y)) (fun y => ⟨hin, nm_e (jn (F i) (by omega) (by omega) (Or.inr (Nat.le_refl _)))⟩)⟩)⟩) (fun w => br_t rfl (go bo h1 (Nat.le_refl _) (fun _ y => absurd y w)))
theorem tt_border (hE : E ≤ 40) (hR : R ≤ 120) (h0 : tt_R0 E R T F L B C) (hn : n < 1000) (ht : t < 1000) (hd : d < 100)
    (hp : ∀ bo, d < bo → bo ≤ 100 → tt_NB T F L B C n t d bo R → post (nI bo)) :
    wpX_borderAfter post (nI E, nI R, ff, ft, fv, ls, tt_aI T, tt_aI F, tt_aI L, V, tt_aI B, tt_aI C, lf, lt, lv) (nI n) (nI t) (nI d) := by
  unfold wpX_borderAfter
  dsimp only
  exact ⟨R + 1, tt_border_loop hE hR h0 hn ht hd hp R 0 100 (by omega) hd (Nat.le_refl _) (fun r hr => by omega)⟩
def tt_lx (T F L C : Nat → Nat) (n t d la i : Nat) : Prop := ∃ r, r < i ∧ tt_cv T F L r t d ∧ C r = la ∧ la ≤ n
/-- the last closing up to n among the first i rows -/
def tt_LC (T F L C : Nat → Nat) (n t d la i : Nat) : Prop := (∀ r, r < i → tt_cv T F L r t d → C r ≤ la ∨ n < C r) ∧ (la = 0 ∨ tt_lx T F L C n t d la i)
theorem tt_lastC_loop (hE : E ≤ 40) (hR : R ≤ 120) (h0 : tt_R0 E R T F L B C) (hn : n < 1000) (ht : t < 1000) (hd : d < 1000)
    (hp : ∀ la, la ≤ n → tt_LC T F L C n t d la R → post (nI la)) :
    ∀ k i la, i + k = R → la ≤ n → tt_LC T F L C n t d la i → wX_lastClosing_6 post (nI n) (nI t) (nI d) (nI E) (nI R) ff ft fv ls (tt_aI T) (tt_aI F) (tt_aI L) V (tt_aI B) (tt_aI C) lf lt lv (k + 1) (nI la) (nI i) := by
  intro k
  induction k with
  | zero =>
    intro i la hi h1 h
    have e : i = R := by omega
    subst e
    rw [wX_lastClosing_6]
    dsimp only
    exact br_t (nI_le (Nat.le_refl i) (by omega)) (hp la h1 h)
  | succ k ih =>
    intro i la hi h1 h
    have z := h0 i (by omega)
    have hin : vp_in (nI i) 124 := vp_in_nI (by omega) (by decide)
    obtain ⟨g1, g2⟩ := h
    have sk : (tt_cv T F L i t d → C i ≤ la ∨ n < C i) → ∀ x : Int32, x = nI i + 1 → wX_lastClosing_6 post (nI n) (nI t) (nI d) (nI E) (nI R) ff ft fv ls (tt_aI T) (tt_aI F) (tt_aI L) V (tt_aI B) (tt_aI C) lf lt lv (k + 1) (nI la) x := by
      intro w
      refine nm_r (nI_1 i) (ih (i + 1) la (by omega) h1 ⟨fun r hr hc => ?_, ?_⟩)
      · by_cases e : r = i
        · rw [e] at hc ⊢; exact w hc
        · exact g1 r (by omega) hc
      · rcases g2 with g | ⟨r, hr, g⟩
        · exact Or.inl g
        · exact Or.inr ⟨r, by omega, g⟩
    have tk : tt_cv T F L i t d → la < C i → C i ≤ n → ∀ x : Int32, x = nI i + 1 → wX_lastClosing_6 post (nI n) (nI t) (nI d) (nI E) (nI R) ff ft fv ls (tt_aI T) (tt_aI F) (tt_aI L) V (tt_aI B) (tt_aI C) lf lt lv (k + 1) (nI (C i)) x := by
      intro w w1 w2
      refine nm_r (nI_1 i) (ih (i + 1) (C i) (by omega) w2 ⟨fun r hr hc => ?_, Or.inr ⟨i, by omega, w, rfl, w2⟩⟩)
      by_cases e : r = i
      · rw [e]; exact Or.inl (Nat.le_refl _)
      · have := g1 r (by omega) hc
        omega
    rw [wX_lastClosing_6]
    dsimp only
    rw [tt_cl i (by omega)]
    unfold wX_lastClosing_52 wX_lastClosing_53
    rw [tt_cl i (by omega)]
    refine br_f (nI_ge (by omega) (by omega)) ⟨hin, pk_eq (T i) t (fun hT => ⟨hin, pk_lt d (F i) (fun w => br_t rfl (sk (fun y => by have := y.2.1; omega))) (fun hF => ⟨hin, pk_le (L i) d (fun w => br_t rfl (sk (fun y => by have := y.2.2; omega))) (fun hL => br_f (by decide) ?_)⟩)⟩) (fun w => br_t rfl (sk (fun y => absurd y.1 w)))⟩
    exact ⟨hin, pk_le (C i) la (fun w => sk (fun _ => Or.inl w)) (fun w => ⟨hin, pk_lt n (C i) (fun u => sk (fun _ => Or.inr u)) (fun u => ⟨hin, nm_e (tk ⟨hT, hF, hL⟩ w u)⟩)⟩)⟩
theorem tt_lastC (hE : E ≤ 40) (hR : R ≤ 120) (h0 : tt_R0 E R T F L B C) (hn : n < 1000) (ht : t < 1000) (hd : d < 1000)
    (hp : ∀ la, la ≤ n → tt_LC T F L C n t d la R → post (nI la)) :
    wpX_lastClosing post (nI E, nI R, ff, ft, fv, ls, tt_aI T, tt_aI F, tt_aI L, V, tt_aI B, tt_aI C, lf, lt, lv) (nI n) (nI t) (nI d) := by
  unfold wpX_lastClosing
  dsimp only
  exact ⟨R + 1, tt_lastC_loop hE hR h0 hn ht hd hp R 0 0 (by omega) (by omega) ⟨fun r hr => by omega, Or.inl rfl⟩⟩
end
end
section
/-! pieces: the maximal runs of g on the days below D; pure -/
def tt_PC (g : Nat → Option Int32) (D m : Nat) (pf pt : Nat → Nat) (pv : Nat → Int32) : Prop :=
  (∀ i, i < m → pf i < pt i ∧ pt i ≤ D)
  ∧ (∀ i d, i < m → pf i ≤ d → d < pt i → g d = some (pv i))
  ∧ (∀ i, i + 1 < m → pt i ≤ pf (i + 1))
  ∧ (∀ i, i + 1 < m → pt i = pf (i + 1) → pv i ≠ pv (i + 1))
  ∧ (∀ d v, d < D → g d = some v → ∃ i, i < m ∧ pf i ≤ d ∧ d < pt i)
def tt_st (pt : Nat → Nat) : Nat → Nat
  | 0 => 0
  | i + 1 => pt i
section
variable {g : Nat → Option Int32} {D m : Nat} {pf pt : Nat → Nat} {pv : Nat → Int32}
theorem tt_PC_mono (h : tt_PC g D m pf pt pv) : ∀ k i, i + k + 1 < m → pt i ≤ pf (i + k + 1) := by
  obtain ⟨h1, _, h3, _, _⟩ := h
  intro k
  induction k with
  | zero => intro i hi; exact h3 i hi
  | succ k ih =>
    intro i hi
    have e1 := ih i (by omega)
    have e2 := h1 (i + k + 1) (by omega)
    have e3 := h3 (i + k + 1) hi
    show pt i ≤ pf (i + k + 1 + 1)
    omega
theorem tt_PC_lt (h : tt_PC g D m pf pt pv) {i j : Nat} (hij : i < j) (hj : j < m) : pt i ≤ pf j := by
  obtain ⟨k, rfl⟩ : ∃ k, j = i + k + 1 := ⟨j - i - 1, by omega⟩
  exact tt_PC_mono h k i hj
theorem tt_PC_le (h : tt_PC g D m pf pt pv) : ∀ i, i < m → i ≤ pf i := by
  intro i
  induction i with
  | zero => intro _; omega
  | succ i ih =>
    intro hi
    have e1 := ih (by omega)
    have e2 := h.1 i (by omega)
    have e3 := h.2.2.1 i hi
    omega
theorem tt_PC_m (h : tt_PC g D m pf pt pv) : m ≤ D := by
  by_cases z : m = 0
  · omega
  · have e1 := tt_PC_le h (m - 1) (by omega)
    have e2 := h.1 (m - 1) (by omega)
    omega
theorem tt_PC_end (h : tt_PC g D m pf pt pv) {i : Nat} (hi : i < m) (hD : pt i < D) : g (pt i) ≠ some (pv i) := by
  intro z
  obtain ⟨j, hj, j1, j2⟩ := h.2.2.2.2 (pt i) (pv i) hD z
  have e := h.2.1 j (pt i) hj j1 j2
  have i1 := h.1 i hi
  by_cases c : j ≤ i
  · by_cases c' : j = i
    · rw [c'] at j2; omega
    · have := tt_PC_lt h (i := j) (j := i) (by omega) hi
      omega
  · by_cases c' : j = i + 1
    · subst c'
      have y := h.2.2.1 i hj
      refine h.2.2.2.1 i hj (by omega) ?_
      rw [z] at e
      exact Option.some.inj e
    · have y1 := tt_PC_lt h (i := i + 1) (j := j) (by omega) hj
      have y2 := h.1 (i + 1) (by omega)
      have y3 := h.2.2.1 i (by omega)
      omega
theorem tt_PC_st (h : tt_PC g D m pf pt pv) {i j d : Nat} (hi : i ≤ m) (hj : j < m) (hd : tt_st pt i ≤ d) (h1 : pf j ≤ d) (h2 : d < pt j) : i ≤ j := by
  cases i with
  | zero => omega
  | succ i =>
    have hd' : pt i ≤ d := hd
    by_cases c : j ≤ i
    · by_cases c' : j = i
      · rw [c'] at h2; omega
      · have := tt_PC_lt h (i := j) (j := i) (by omega) (by omega)
        have := h.1 i (by omega)
        omega
    · omega
end
/-! the pieces by rows -/
section
variable {E R n t m : Nat} {T F L B C : Nat → Nat} {V : Nat → Int32} {K : Nat → Nat → Nat → Option Int32} {pf pt : Nat → Nat} {pv : Nat → Int32}
theorem tt_row_in (h : tt_RX E R T F L B C V K) (hn : n ≤ E) (hP : tt_PC (K n t) 100 m pf pt pv) {i b : Nat} (hi : i < m) (hb : b < R) (hT : T b = t) (hk : tt_kn B C b n) (h1 : pf i ≤ F b) (h2 : F b < pt i) : V b = pv i ∧ L b ≤ pt i := by
  have z := h.1 b hb
  have e1 := h.2.1 b n t (F b) hb hn ⟨hT, by omega, by omega⟩ hk
  have e2 := hP.2.1 i (F b) hi h1 h2
  rw [e1] at e2
  have ev : V b = pv i := Option.some.inj e2
  refine ⟨ev, ?_⟩
  by_cases c : L b ≤ pt i
  · exact c
  · exfalso
    refine tt_PC_end hP hi (by omega) ?_
    rw [← ev]
    exact h.2.1 b n t (pt i) hb hn ⟨hT, by omega, by omega⟩ hk
theorem tt_find_some (h : tt_RX E R T F L B C V K) (hn : n ≤ E) (hP : tt_PC (K n t) 100 m pf pt pv) {i : Nat} (hi : i < m) {o : Option Nat} (ho : tt_Best (tt_PF T F B C n t (tt_st pt i)) F R o) : ∃ b, o = some b ∧ b < R ∧ T b = t ∧ tt_kn B C b n ∧ F b = pf i ∧ V b = pv i ∧ L b ≤ pt i := by
  have p0 := hP.1 i hi
  have e0 := hP.2.1 i (pf i) hi (Nat.le_refl _) (by omega)
  obtain ⟨q, hq, ⟨q1, q2, q3⟩, hqk⟩ := h.2.2.1 n t (pf i) _ hn e0
  have qv := h.2.1 q n t (pf i) hq hn ⟨q1, q2, q3⟩ hqk
  have qs : tt_st pt i ≤ F q := by
    cases i with
    | zero => exact Nat.zero_le _
    | succ j =>
      show pt j ≤ F q
      by_cases c : pt j ≤ F q
      · exact c
      · exfalso
        have j1 := hP.1 j (by omega)
        have j2 := hP.2.2.1 j hi
        have e1 := h.2.1 q n t (pt j - 1) hq hn ⟨q1, by omega, by omega⟩ hqk
        rw [hP.2.1 j (pt j - 1) (by omega) (by omega) (by omega)] at e1
        have ev : pv j = V q := Option.some.inj e1
        refine tt_PC_end hP (i := j) (by omega) (by omega) ?_
        rw [ev]
        exact h.2.1 q n t (pt j) hq hn ⟨q1, by omega, by omega⟩ hqk
  cases o with
  | none => exact absurd (And.intro q1 (And.intro qs hqk)) (ho q hq)
  | some b =>
    obtain ⟨hb, ⟨b1, b2, b3⟩, bm⟩ := ho
    have bq := bm q hq ⟨q1, qs, hqk⟩
    have zb := h.1 b hb
    have eb := h.2.1 b n t (F b) hb hn ⟨b1, by omega, by omega⟩ b3
    obtain ⟨l, hl, l1, l2⟩ := hP.2.2.2.2 (F b) _ (by omega) eb
    have li := tt_PC_st hP (Nat.le_of_lt hi) hl b2 l1 l2
    have le : l = i := by
      by_cases c : l = i
      · exact c
      · have := tt_PC_lt hP (i := i) (j := l) (by omega) hl
        omega
    subst le
    have fb : F b = pf l := by omega
    obtain ⟨r1, r2⟩ := tt_row_in h hn hP hl hb b1 b3 l1 l2
    exact ⟨b, rfl, hb, b1, b3, fb, r1, r2⟩
theorem tt_find_none (h : tt_RX E R T F L B C V K) (hn : n ≤ E) (hP : tt_PC (K n t) 100 m pf pt pv) {o : Option Nat} (ho : tt_Best (tt_PF T F B C n t (tt_st pt m)) F R o) : o = none := by
  cases o with
  | none => rfl
  | some b =>
    exfalso
    obtain ⟨hb, ⟨b1, b2, b3⟩, bm⟩ := ho
    have zb := h.1 b hb
    have eb := h.2.1 b n t (F b) hb hn ⟨b1, by omega, by omega⟩ b3
    obtain ⟨l, hl, l1, l2⟩ := hP.2.2.2.2 (F b) _ (by omega) eb
    have li := tt_PC_st hP (Nat.le_refl m) hl b2 l1 l2
    omega
theorem tt_find_next (h : tt_RX E R T F L B C V K) (hn : n ≤ E) (hP : tt_PC (K n t) 100 m pf pt pv) {i x p : Nat} (hi : i < m) (hp : p < R) (pT : T p = t) (pk : tt_kn B C p n) (pF : pf i ≤ F p) (pL : L p = x) (hx : x < pt i) {o : Option Nat} (ho : tt_Best (tt_PF T F B C n t x) F R o) : ∃ b, o = some b ∧ b < R ∧ T b = t ∧ tt_kn B C b n ∧ F b = x ∧ V b = pv i ∧ x < L b ∧ L b ≤ pt i := by
  have zp := h.1 p hp
  have e0 := hP.2.1 i x hi (by omega) hx
  obtain ⟨q, hq, ⟨q1, q2, q3⟩, hqk⟩ := h.2.2.1 n t x _ hn e0
  have fq : F q = x := by
    by_cases c : F q = x
    · exact c
    · exfalso
      have e := h.2.2.2 p q n t (x - 1) hp hq hn ⟨pT, by omega, by omega⟩ ⟨q1, by omega, by omega⟩ pk hqk
      rw [e] at pL
      omega
  cases o with
  | none => exact absurd (And.intro q1 (And.intro (Nat.le_of_eq fq.symm) hqk)) (ho q hq)
  | some b =>
    obtain ⟨hb, ⟨b1, b2, b3⟩, bm⟩ := ho
    have bq := bm q hq ⟨q1, Nat.le_of_eq fq.symm, hqk⟩
    have zb := h.1 b hb
    obtain ⟨r1, r2⟩ := tt_row_in h hn hP hi hb b1 b3 (by omega) (by omega)
    exact ⟨b, rfl, hb, b1, b3, by omega, r1, by omega, r2⟩
theorem tt_find_stop (h : tt_RX E R T F L B C V K) (hn : n ≤ E) (hP : tt_PC (K n t) 100 m pf pt pv) {i b : Nat} (hi : i < m) (hb : b < R) (hT : T b = t) (hk : tt_kn B C b n) (hF : F b = pt i) : V b ≠ pv i := by
  have zb := h.1 b hb
  intro e
  refine tt_PC_end hP hi (by omega) ?_
  rw [← e, ← hF]
  exact h.2.1 b n t (F b) hb hn ⟨hT, by omega, by omega⟩ hk
end
end
section
/-! the component's walk along the pieces -/
section
variable {E R n t m : Nat} {ff ft fv ls : Int32} {T F L B C : Nat → Nat} {V lf lt lv : Nat → Int32} {K : Nat → Nat → Nat → Option Int32} {pf pt : Nat → Nat} {pv : Nat → Int32}
theorem tt_find_loop {post : Int32 → SX → Prop} (h : tt_RX E R T F L B C V K) (hE : E ≤ 40) (hR : R ≤ 120) (hn : n ≤ E) (ht : t < 1000) (hP : tt_PC (K n t) 100 m pf pt pv) {i : Nat} (hi : i < m)
    (hp : post 1 (nI E, nI R, ff, nI (pt i), pv i, ls, tt_aI T, tt_aI F, tt_aI L, V, tt_aI B, tt_aI C, lf, lt, lv)) :
    ∀ k x p o, pt i < x + k → x ≤ pt i → p < R → T p = t → tt_kn B C p n → pf i ≤ F p → L p = x → tt_Best (tt_PF T F B C n t x) F R o → wX_findPiece_61 post (nI n) (nI t) (nI E) (nI R) ff (pv i) ls (tt_aI T) (tt_aI F) (tt_aI L) V (tt_aI B) (tt_aI C) lf lt lv k (tt_bI o) (nI x) := by
  have pi := hP.1 i hi
  intro k
  induction k with
  | zero =>
    intro x p o hx hx'
    omega
  | succ k ih =>
    intro x p o hx hx' hp' pT pk pF pL ho
    rw [wX_findPiece_61]
    dsimp only
    by_cases c : x < pt i
    · obtain ⟨b, e, hb, bT, bk, bF, bV, bL, bL'⟩ := tt_find_next h hn hP hi hp' pT pk pF pL c ho
      subst e
      have zb := h.1 b hb
      have zp := h.1 p hp'
      have p1 : ¬ tt_bI (some b) < 0 := nI_pos (by omega)
      have e1 : (tt_bI (some b)).toNatClampNeg = b := nI_clamp (by omega)
      have i1 : vp_in (tt_bI (some b)) 124 := vp_in_nI (by omega) (by decide)
      rw [e1]
      refine br_f p1 ⟨i1, br_t (congrArg nI bF) ⟨i1, br_t bV ⟨i1, nm_e ?_⟩⟩⟩
      exact tt_rowFrom (s := L b) hE hR h.1 (by omega) ht (by omega) (fun o' ho' => ih (L b) b o' (by omega) bL' hb bT bk (by omega) rfl ho')
    · have ex : x = pt i := by omega
      subst ex
      cases o with
      | none =>
        have m1 : tt_bI none < 0 := by show (-1 : Int32) < 0; decide
        exact br_t m1 hp
      | some b =>
        obtain ⟨hb, ⟨b1, b2, b3⟩, bm⟩ := ho
        have zb := h.1 b hb
        have p1 : ¬ tt_bI (some b) < 0 := nI_pos (by omega)
        have e1 : (tt_bI (some b)).toNatClampNeg = b := nI_clamp (by omega)
        have i1 : vp_in (tt_bI (some b)) 124 := vp_in_nI (by omega) (by decide)
        rw [e1]
        exact br_f p1 ⟨i1, pk_eq (F b) (pt i) (fun w => ⟨i1, br_f (tt_find_stop h hn hP hi hb b1 b3 (by omega)) hp⟩) (fun w => hp)⟩
/-- findPiece from where piece i - 1 ended: piece i -/
theorem tt_find_y {post : Int32 → SX → Prop} (h : tt_RX E R T F L B C V K) (hE : E ≤ 40) (hR : R ≤ 120) (hn : n ≤ E) (ht : t < 1000) (hP : tt_PC (K n t) 100 m pf pt pv) {i : Nat} (hi : i < m)
    (hp : post 1 (nI E, nI R, nI (pf i), nI (pt i), pv i, ls, tt_aI T, tt_aI F, tt_aI L, V, tt_aI B, tt_aI C, lf, lt, lv)) : wpX_findPiece post (nI E, nI R, ff, ft, fv, ls, tt_aI T, tt_aI F, tt_aI L, V, tt_aI B, tt_aI C, lf, lt, lv) (nI n) (nI t) (nI (tt_st pt i)) := by
  have pi := hP.1 i hi
  have sl : tt_st pt i ≤ pf i := by
    cases i with
    | zero => exact Nat.zero_le _
    | succ j => exact hP.2.2.1 j hi
  unfold wpX_findPiece
  dsimp only
  refine tt_rowFrom hE hR h.1 (by omega) ht (by omega) (fun o ho => ?_)
  obtain ⟨b, e, hb, bT, bk, bF, bV, bL⟩ := tt_find_some h hn hP hi ho
  subst e
  have zb := h.1 b hb
  have p1 : 0 ≤ tt_bI (some b) := nI_pos' (by omega)
  have e1 : (tt_bI (some b)).toNatClampNeg = b := nI_clamp (by omega)
  have i1 : vp_in (tt_bI (some b)) 124 := vp_in_nI (by omega) (by decide)
  rw [e1]
  refine br_t p1 ⟨i1, nm_r (e' := nI (pf i)) (congrArg nI bF) ⟨i1, nm_r (e' := nI (L b)) rfl ⟨i1, nm_r bV ?_⟩⟩⟩
  refine tt_rowFrom hE hR h.1 (by omega) ht (by omega) (fun o' ho' => ?_)
  exact ⟨101, tt_find_loop h hE hR hn ht hP hi hp 101 (L b) b o' (by omega) bL hb bT bk (by omega) rfl ho'⟩
theorem tt_find_n {post : Int32 → SX → Prop} (h : tt_RX E R T F L B C V K) (hE : E ≤ 40) (hR : R ≤ 120) (hn : n ≤ E) (ht : t < 1000) (hP : tt_PC (K n t) 100 m pf pt pv)
    (hp : post 0 (nI E, nI R, ff, ft, fv, ls, tt_aI T, tt_aI F, tt_aI L, V, tt_aI B, tt_aI C, lf, lt, lv)) : wpX_findPiece post (nI E, nI R, ff, ft, fv, ls, tt_aI T, tt_aI F, tt_aI L, V, tt_aI B, tt_aI C, lf, lt, lv) (nI n) (nI t) (nI (tt_st pt m)) := by
  have sl : tt_st pt m ≤ 100 := by
    cases m with
    | zero => exact Nat.zero_le _
    | succ j => exact (hP.1 j (by omega)).2
  unfold wpX_findPiece
  dsimp only
  refine tt_rowFrom hE hR h.1 (by omega) ht (by omega) (fun o ho => ?_)
  have e := tt_find_none h hn hP ho
  subst e
  have m1 : ¬ 0 ≤ tt_bI none := by show ¬ (0 : Int32) ≤ -1; decide
  exact br_f m1 hp
def tt_LA (m : Nat) (lf lt lv : Nat → Int32) (pf pt : Nat → Nat) (pv : Nat → Int32) : Prop := ∀ j, j < m → lf j = nI (pf j) ∧ lt j = nI (pt j) ∧ lv j = pv j
theorem tt_LA_put {m : Nat} {lf lt lv : Nat → Int32} {pf pt : Nat → Nat} {pv : Nat → Int32} (h : tt_LA m lf lt lv pf pt pv) : tt_LA (m + 1) (upd lf m (nI (pf m))) (upd lt m (nI (pt m))) (upd lv m (pv m)) pf pt pv := by
  intro j hj
  by_cases e : j = m
  · rw [e, pk_us, pk_us, pk_us]; exact ⟨rfl, rfl, rfl⟩
  · rw [pk_un e, pk_un e, pk_un e]; exact h j (by omega)
theorem tt_list_loop {post : SX → Prop} (h : tt_RX E R T F L B C V K) (hE : E ≤ 40) (hR : R ≤ 120) (ht : t < 1000) (hP : tt_PC (K E t) 100 m pf pt pv)
    (hp : ∀ (ff ft fv : Int32) (lf lt lv : Nat → Int32), tt_LA m lf lt lv pf pt pv → post (nI E, nI R, ff, ft, fv, nI m, tt_aI T, tt_aI F, tt_aI L, V, tt_aI B, tt_aI C, lf, lt, lv)) :
    ∀ k i, i + k + 1 = m → ∀ (lf lt lv : Nat → Int32), tt_LA i lf lt lv pf pt pv → wX_listPieces_16 post (nI t) (k + 2) 1 (nI E) (nI R) (nI (pf i)) (nI (pt i)) (pv i) (nI i) (tt_aI T) (tt_aI F) (tt_aI L) V (tt_aI B) (tt_aI C) lf lt lv := by
  have hm := tt_PC_m hP
  intro k
  induction k with
  | zero =>
    intro i hi lf lt lv hl
    have e : m = i + 1 := by omega
    subst e
    have hin : vp_in (nI i) 100 := vp_in_nI (by omega) (by decide)
    rw [wX_listPieces_16]
    dsimp only
    rw [tt_cl i (by omega)]
    refine br_f (by decide) (br_f (nI_ge (b := 100) (by omega) (by decide)) ⟨hin, nm_e ⟨hin, nm_e ⟨hin, nm_e (nm_r (nI_1 i) ?_)⟩⟩⟩)
    unfold wX_listPieces_78
    refine tt_find_n (m := i + 1) (pt := pt) h hE hR (Nat.le_refl _) ht hP ?_
    dsimp only
    rw [wX_listPieces_16]
    dsimp only
    exact br_t rfl (hp _ _ _ _ _ _ (tt_LA_put hl))
  | succ k ih =>
    intro i hi lf lt lv hl
    have hin : vp_in (nI i) 100 := vp_in_nI (by omega) (by decide)
    rw [wX_listPieces_16]
    dsimp only
    rw [tt_cl i (by omega)]
    refine br_f (by decide) (br_f (nI_ge (b := 100) (by omega) (by decide)) ⟨hin, nm_e ⟨hin, nm_e ⟨hin, nm_e (nm_r (nI_1 i) ?_)⟩⟩⟩)
    unfold wX_listPieces_78
    refine tt_find_y (i := i + 1) (pt := pt) h hE hR (Nat.le_refl _) ht hP (by omega) ?_
    dsimp only
    exact ih (i + 1) (by omega) _ _ _ (tt_LA_put hl)
theorem tt_listPieces {post : SX → Prop} (h : tt_RX E R T F L B C V K) (hE : E ≤ 40) (hR : R ≤ 120) (ht : t < 1000) (hP : tt_PC (K E t) 100 m pf pt pv)
    (hp : ∀ (ff ft fv : Int32) (lf lt lv : Nat → Int32), tt_LA m lf lt lv pf pt pv → post (nI E, nI R, ff, ft, fv, nI m, tt_aI T, tt_aI F, tt_aI L, V, tt_aI B, tt_aI C, lf, lt, lv)) :
    wpX_listPieces post (nI E, nI R, ff, ft, fv, ls, tt_aI T, tt_aI F, tt_aI L, V, tt_aI B, tt_aI C, lf, lt, lv) (nI t) := by
  unfold wpX_listPieces
  dsimp only
  cases m with
  | zero =>
    refine tt_find_n (m := 0) (pt := pt) h hE hR (Nat.le_refl _) ht hP ?_
    dsimp only
    refine ⟨1, ?_⟩
    rw [wX_listPieces_16]
    dsimp only
    exact br_t rfl (hp _ _ _ _ _ _ (fun j hj => by omega))
  | succ m =>
    refine tt_find_y (i := 0) (pt := pt) h hE hR (Nat.le_refl _) ht hP (by omega) ?_
    dsimp only
    exact ⟨m + 2, tt_list_loop h hE hR ht hP hp m 0 (by omega) lf lt lv (fun j hj => by omega)⟩
theorem tt_pieces_loop {post : Int32 → SX → Prop} (h : tt_RX E R T F L B C V K) (hE : E ≤ 40) (hR : R ≤ 120) (hn : n ≤ E) (ht : t < 1000) (hP : tt_PC (K n t) 100 m pf pt pv)
    (hp : ∀ (ff ft fv : Int32), post (nI m) (nI E, nI R, ff, ft, fv, ls, tt_aI T, tt_aI F, tt_aI L, V, tt_aI B, tt_aI C, lf, lt, lv)) :
    ∀ k i, i + k + 1 = m → wX_pieces_31 post (nI n) (nI t) (k + 2) (nI i) 1 (nI E) (nI R) (nI (pf i)) (nI (pt i)) (pv i) ls (tt_aI T) (tt_aI F) (tt_aI L) V (tt_aI B) (tt_aI C) lf lt lv := by
  intro k
  induction k with
  | zero =>
    intro i hi
    have e : m = i + 1 := by omega
    subst e
    rw [wX_pieces_31]
    dsimp only
    refine br_f (by decide) (nm_r (nI_1 i) ?_)
    refine tt_find_n (m := i + 1) (pt := pt) h hE hR hn ht hP ?_
    dsimp only
    rw [wX_pieces_31]
    dsimp only
    exact br_t rfl (hp _ _ _)
  | succ k ih =>
    intro i hi
    rw [wX_pieces_31]
    dsimp only
    refine br_f (by decide) (nm_r (nI_1 i) ?_)
    refine tt_find_y (i := i + 1) (pt := pt) h hE hR hn ht hP (by omega) ?_
    dsimp only
    exact ih (i + 1) (by omega)
theorem tt_xpieces {post : Int32 → SX → Prop} (h : tt_RX E R T F L B C V K) (hE : E ≤ 40) (hR : R ≤ 120) (hn : n ≤ E) (ht : t < 6) (hP : tt_PC (K n t) 100 m pf pt pv)
    (hp : ∀ (ff ft fv : Int32), post (nI m) (nI E, nI R, ff, ft, fv, ls, tt_aI T, tt_aI F, tt_aI L, V, tt_aI B, tt_aI C, lf, lt, lv)) : wpX_pieces post (nI E, nI R, ff, ft, fv, ls, tt_aI T, tt_aI F, tt_aI L, V, tt_aI B, tt_aI C, lf, lt, lv) (nI n) (nI t) := by
  unfold wpX_pieces
  dsimp only
  refine tt_bE_y hE hn (br_t rfl (tt_bT_y ht (br_t rfl ?_)))
  cases m with
  | zero =>
    refine tt_find_n (m := 0) (pt := pt) h hE hR hn (by omega) hP ?_
    dsimp only
    refine ⟨1, ?_⟩
    rw [wX_pieces_31]
    exact br_t rfl (hp _ _ _)
  | succ m =>
    refine tt_find_y (i := 0) (pt := pt) h hE hR hn (by omega) hP (by omega) ?_
    dsimp only
    exact ⟨m + 2, tt_pieces_loop h hE hR hn (by omega) hP hp m 0 (by omega)⟩
/-- seekPiece: piece i if it is there -/
theorem tt_seek_loop {post : Int32 → SX → Prop} (h : tt_RX E R T F L B C V K) (hE : E ≤ 40) (hR : R ≤ 120) (hn : n ≤ E) (ht : t < 1000) (hP : tt_PC (K n t) 100 m pf pt pv) {i : Nat} (hi : i < 2 ^ 31)
    (hy : i < m → post 1 (nI E, nI R, nI (pf i), nI (pt i), pv i, ls, tt_aI T, tt_aI F, tt_aI L, V, tt_aI B, tt_aI C, lf, lt, lv)) (hno : m ≤ i → ∀ (ff ft fv : Int32), post 0 (nI E, nI R, ff, ft, fv, ls, tt_aI T, tt_aI F, tt_aI L, V, tt_aI B, tt_aI C, lf, lt, lv)) :
    ∀ k j, j < m → j ≤ i → m < j + k → wX_seekPiece_18 post (nI n) (nI t) (nI i) (k + 1) 1 (nI j) (nI E) (nI R) (nI (pf j)) (nI (pt j)) (pv j) ls (tt_aI T) (tt_aI F) (tt_aI L) V (tt_aI B) (tt_aI C) lf lt lv := by
  have hm := tt_PC_m hP
  intro k
  induction k with
  | zero =>
    intro j h1 h2 h3
    omega
  | succ k ih =>
    intro j h1 h2 h3
    rw [wX_seekPiece_18]
    dsimp only
    by_cases c : j = i
    · subst c
      exact br_t (nI_le (Nat.le_refl _) hi) ⟨narrow_b1, hy h1⟩
    · refine br_f (nI_ge (by omega) hi) (br_f (by decide) ?_)
      by_cases d : j + 1 < m
      · refine tt_find_y (i := j + 1) (pt := pt) h hE hR hn ht hP d ?_
        dsimp only
        exact nm_r (nI_1 j) (ih (j + 1) d (by omega) (by omega))
      · have e : m = j + 1 := by omega
        subst e
        refine tt_find_n (m := j + 1) (pt := pt) h hE hR hn ht hP ?_
        dsimp only
        refine nm_r (nI_1 j) ?_
        rw [wX_seekPiece_18]
        dsimp only
        exact br_c (fun _ => ⟨narrow_b0, hno (by omega) _ _ _⟩) (fun _ => br_t rfl ⟨narrow_b0, hno (by omega) _ _ _⟩)
theorem tt_seek {post : Int32 → SX → Prop} (h : tt_RX E R T F L B C V K) (hE : E ≤ 40) (hR : R ≤ 120) (hn : n ≤ E) (ht : t < 1000) (hP : tt_PC (K n t) 100 m pf pt pv) {i : Nat} (hi : i < 2 ^ 31)
    (hy : i < m → post 1 (nI E, nI R, nI (pf i), nI (pt i), pv i, ls, tt_aI T, tt_aI F, tt_aI L, V, tt_aI B, tt_aI C, lf, lt, lv)) (hno : m ≤ i → ∀ (ff ft fv : Int32), post 0 (nI E, nI R, ff, ft, fv, ls, tt_aI T, tt_aI F, tt_aI L, V, tt_aI B, tt_aI C, lf, lt, lv)) :
    wpX_seekPiece post (nI E, nI R, ff, ft, fv, ls, tt_aI T, tt_aI F, tt_aI L, V, tt_aI B, tt_aI C, lf, lt, lv) (nI n) (nI t) (nI i) := by
  have hm := tt_PC_m hP
  unfold wpX_seekPiece
  dsimp only
  refine br_t (nI_pos' hi) ?_
  by_cases c : 0 < m
  · refine tt_find_y (i := 0) (pt := pt) h hE hR hn ht hP c ?_
    dsimp only
    exact ⟨m + 2, tt_seek_loop h hE hR hn ht hP hi hy hno (m + 1) 0 c (by omega) (by omega)⟩
  · have e : m = 0 := by omega
    subst e
    refine tt_find_n (m := 0) (pt := pt) h hE hR hn ht hP ?_
    dsimp only
    refine ⟨1, ?_⟩
    rw [wX_seekPiece_18]
    dsimp only
    exact br_c (fun _ => ⟨narrow_b0, hno (by omega) _ _ _⟩) (fun _ => br_t rfl ⟨narrow_b0, hno (by omega) _ _ _⟩)
end
end
section
/-! clipping the listed pieces, and entering them -/
def tt_mx (x a : Nat) : Nat := if x ≤ a then a else x
def tt_mn (y b : Nat) : Nat := if b ≤ y then b else y
def tt_cnt (pf pt : Nat → Nat) (a b : Nat) : Nat → Nat
  | 0 => 0
  | i + 1 => tt_cnt pf pt a b i + (if a < pt i ∧ pf i < b then 1 else 0)
section
variable {pf pt : Nat → Nat} {a b : Nat}
theorem tt_cnt_y {i : Nat} (h : a < pt i ∧ pf i < b) : tt_cnt pf pt a b (i + 1) = tt_cnt pf pt a b i + 1 := by
  show tt_cnt pf pt a b i + (if a < pt i ∧ pf i < b then 1 else 0) = _
  rw [if_pos h]
theorem tt_cnt_n {i : Nat} (h : ¬ (a < pt i ∧ pf i < b)) : tt_cnt pf pt a b (i + 1) = tt_cnt pf pt a b i := by
  show tt_cnt pf pt a b i + (if a < pt i ∧ pf i < b then 1 else 0) = _
  rw [if_neg h]
  rfl
theorem tt_cnt_s (i : Nat) : tt_cnt pf pt a b i ≤ tt_cnt pf pt a b (i + 1) ∧ tt_cnt pf pt a b (i + 1) ≤ tt_cnt pf pt a b i + 1 := by
  by_cases c : a < pt i ∧ pf i < b
  · rw [tt_cnt_y c]; omega
  · rw [tt_cnt_n c]; omega
theorem tt_cnt_le : ∀ i, tt_cnt pf pt a b i ≤ i := by
  intro i
  induction i with
  | zero => exact Nat.le_refl _
  | succ i ih =>
    have := @tt_cnt_s pf pt a b i
    omega
theorem tt_cnt_mono {i : Nat} : ∀ k, tt_cnt pf pt a b i ≤ tt_cnt pf pt a b (i + k) := by
  intro k
  induction k with
  | zero => exact Nat.le_refl _
  | succ k ih =>
    have := @tt_cnt_s pf pt a b (i + k)
    show _ ≤ tt_cnt pf pt a b (i + k + 1)
    omega
theorem tt_cnt_lt {i j : Nat} (hij : i < j) (h : a < pt i ∧ pf i < b) : tt_cnt pf pt a b i < tt_cnt pf pt a b j := by
  obtain ⟨k, rfl⟩ : ∃ k, j = i + 1 + k := ⟨j - i - 1, by omega⟩
  have e1 := @tt_cnt_mono pf pt a b (i + 1) k
  have e2 := @tt_cnt_y pf pt a b i h
  omega
theorem tt_cnt_ex : ∀ m k, k < tt_cnt pf pt a b m → ∃ j, j < m ∧ (a < pt j ∧ pf j < b) ∧ tt_cnt pf pt a b j = k := by
  intro m
  induction m with
  | zero => intro k hk; exact absurd hk (Nat.not_lt_zero _)
  | succ m ih =>
    intro k hk
    by_cases c : k < tt_cnt pf pt a b m
    · obtain ⟨j, hj, h⟩ := ih k c
      exact ⟨j, by omega, h⟩
    · by_cases d : a < pt m ∧ pf m < b
      · rw [tt_cnt_y d] at hk
        exact ⟨m, by omega, d, by omega⟩
      · rw [tt_cnt_n d] at hk
        exact absurd hk c
theorem tt_hit {x y : Nat} (hab : a < b) (hxy : x < y) : (tt_mx x a < tt_mn y b) ↔ (a < y ∧ x < b) := by
  unfold tt_mx tt_mn
  by_cases c1 : x ≤ a
  · rw [if_pos c1]
    by_cases c2 : b ≤ y
    · rw [if_pos c2]; omega
    · rw [if_neg c2]; omega
  · rw [if_neg c1]
    by_cases c2 : b ≤ y
    · rw [if_pos c2]; omega
    · rw [if_neg c2]; omega
end
/-- of the clipped list what stands at the places below cnt i -/
def tt_CL (a b m i : Nat) (lf lt lv : Nat → Int32) (pf pt : Nat → Nat) (pv : Nat → Int32) : Prop :=
  (∀ j, i ≤ j → j < m → lf j = nI (pf j) ∧ lt j = nI (pt j) ∧ lv j = pv j)
  ∧ (∀ j, j < i → (a < pt j ∧ pf j < b) → lf (tt_cnt pf pt a b j) = nI (tt_mx (pf j) a) ∧ lt (tt_cnt pf pt a b j) = nI (tt_mn (pt j) b) ∧ lv (tt_cnt pf pt a b j) = pv j)
theorem tt_CL_n {a b m i : Nat} {lf lt lv : Nat → Int32} {pf pt : Nat → Nat} {pv : Nat → Int32} (h : tt_CL a b m i lf lt lv pf pt pv) (hn : ¬ (a < pt i ∧ pf i < b)) : tt_CL a b m (i + 1) lf lt lv pf pt pv := by
  refine ⟨fun j h1 h2 => h.1 j (by omega) h2, fun j hj hh => ?_⟩
  by_cases e : j = i
  · rw [e] at hh; exact absurd hh hn
  · exact h.2 j (by omega) hh
theorem tt_CL_y {a b m i : Nat} {lf lt lv : Nat → Int32} {pf pt : Nat → Nat} {pv : Nat → Int32} (h : tt_CL a b m i lf lt lv pf pt pv) (hi : i < m) : tt_CL a b m (i + 1) (upd lf (tt_cnt pf pt a b i) (nI (tt_mx (pf i) a))) (upd lt (tt_cnt pf pt a b i) (nI (tt_mn (pt i) b))) (upd lv (tt_cnt pf pt a b i) (lv i)) pf pt pv := by
  have hc := @tt_cnt_le pf pt a b i
  refine ⟨fun j h1 h2 => ?_, fun j hj hh => ?_⟩
  · have e : j ≠ tt_cnt pf pt a b i := by omega
    rw [pk_un e, pk_un e, pk_un e]
    exact h.1 j (by omega) h2
  · by_cases e : j = i
    · subst e
      rw [pk_us, pk_us, pk_us]
      exact ⟨rfl, rfl, (h.1 j (Nat.le_refl _) hi).2.2⟩
    · have hl := tt_cnt_lt (i := j) (j := i) (by omega) hh
      have e' : tt_cnt pf pt a b j ≠ tt_cnt pf pt a b i := by omega
      rw [pk_un e', pk_un e', pk_un e']
      exact h.2 j (by omega) hh
section
variable {E R t m a b : Nat} {ff ft fv ls : Int32} {T F L B C : Nat → Nat} {V lf lt lv : Nat → Int32} {pf pt : Nat → Nat} {pv : Nat → Int32}
theorem tt_clip60 {post : SX → Prop} {J : Int32 → Int32 → (Nat → Int32) → (Nat → Int32) → (Nat → Int32) → (Nat → Int32) → (Nat → Int32) → (Nat → Int32) → (Nat → Int32) → (Nat → Int32) → (Nat → Int32) → Prop} {k i x y : Nat} (hi : i < 100) (hk : k ≤ i) (hx : x < 1000) (hy : y < 1000)
    (h0 : y ≤ x → J (nI k) (nI (i + 1)) (tt_aI T) (tt_aI F) (tt_aI L) V (tt_aI B) (tt_aI C) lf lt lv)
    (h1 : x < y → J (nI (k + 1)) (nI (i + 1)) (tt_aI T) (tt_aI F) (tt_aI L) V (tt_aI B) (tt_aI C) (upd lf k (nI x)) (upd lt k (nI y)) (upd lv k (lv i))) :
    wX_clip_60 post J (nI a) (nI b) (nI k) (nI i) (nI x) (nI y) (nI E) (nI R) ff ft fv ls (tt_aI T) (tt_aI F) (tt_aI L) V (tt_aI B) (tt_aI C) lf lt lv := by
  have i1 : vp_in (nI i) 100 := vp_in_nI hi (by decide)
  have k1 : vp_in (nI k) 100 := vp_in_nI (by omega) (by decide)
  unfold wX_clip_60
  rw [tt_cl i (by omega), tt_cl k (by omega)]
  exact pk_le y x (fun w => nm_r (nI_1 i) (h0 w)) (fun w => ⟨k1, nm_e ⟨k1, nm_e ⟨i1, k1, nm_e (nm_r (nI_1 k) (nm_r (nI_1 i) (h1 w)))⟩⟩⟩)
theorem tt_clip_loop {post : SX → Prop} (hab : a < b) (hb : b ≤ 100) (hm : m ≤ 100) (hq : ∀ i, i < m → pf i < pt i ∧ pt i ≤ 100)
    (hp : ∀ (lf lt lv : Nat → Int32), tt_CL a b m m lf lt lv pf pt pv → post (nI E, nI R, ff, ft, fv, nI (tt_cnt pf pt a b m), tt_aI T, tt_aI F, tt_aI L, V, tt_aI B, tt_aI C, lf, lt, lv)) :
    ∀ q i, i + q = m → ∀ (lf lt lv : Nat → Int32), tt_CL a b m i lf lt lv pf pt pv → wX_clip_5 post (nI a) (nI b) (nI E) (nI R) ff ft fv (nI m) (q + 1) (nI (tt_cnt pf pt a b i)) (nI i) (tt_aI T) (tt_aI F) (tt_aI L) V (tt_aI B) (tt_aI C) lf lt lv := by
  intro q
  induction q with
  | zero =>
    intro i hi lf lt lv h
    have e : i = m := by omega
    subst e
    rw [wX_clip_5]
    dsimp only
    exact br_t (nI_le (Nat.le_refl i) (by omega)) (hp lf lt lv h)
  | succ q ih =>
    intro i hi lf lt lv h
    have hin : vp_in (nI i) 100 := vp_in_nI (by omega) (by decide)
    obtain ⟨e1, e2, e3⟩ := h.1 i (Nat.le_refl _) (by omega)
    obtain ⟨p1, p2⟩ := hq i (by omega)
    have hc := @tt_cnt_le pf pt a b i
    have hh := tt_hit (x := pf i) (y := pt i) hab p1
    have c60 : ∀ x y, x = tt_mx (pf i) a → y = tt_mn (pt i) b → x < 1000 → y < 1000 → wX_clip_60 post (wX_clip_5 post (nI a) (nI b) (nI E) (nI R) ff ft fv (nI m) (q + 1)) (nI a) (nI b) (nI (tt_cnt pf pt a b i)) (nI i) (nI x) (nI y) (nI E) (nI R) ff ft fv (nI m) (tt_aI T) (tt_aI F) (tt_aI L) V (tt_aI B) (tt_aI C) lf lt lv := by
      intro x y ex ey hx hy
      refine tt_clip60 (by omega) hc hx hy (fun w => ?_) (fun w => ?_)
      · have hn : ¬ (a < pt i ∧ pf i < b) := fun u => by have := hh.mpr u; omega
        rw [← tt_cnt_n hn]
        exact ih (i + 1) (by omega) lf lt lv (tt_CL_n h hn)
      · have hn : a < pt i ∧ pf i < b := hh.mp (by omega)
        rw [← tt_cnt_y hn, ex, ey]
        exact ih (i + 1) (by omega) _ _ _ (tt_CL_y h (by omega))
    have jn : ∀ x, x = tt_mx (pf i) a → x < 1000 → wX_clip_36 post (wX_clip_5 post (nI a) (nI b) (nI E) (nI R) ff ft fv (nI m) (q + 1)) (nI a) (nI b) (nI (tt_cnt pf pt a b i)) (nI i) (nI x) (nI E) (nI R) ff ft fv (nI m) (tt_aI T) (tt_aI F) (tt_aI L) V (tt_aI B) (tt_aI C) lf lt lv := by
      intro x ex hx
      unfold wX_clip_36
      rw [tt_cl i (by omega), e2]
      exact ⟨hin, pk_le b (pt i) (fun w => c60 x b ex (if_pos w).symm hx (by omega)) (fun w => ⟨hin, c60 x (pt i) ex (if_neg (by omega)).symm hx (by omega)⟩)⟩
    rw [wX_clip_5]
    dsimp only
    rw [tt_cl i (by omega), e1]
    exact br_f (nI_ge (by omega) (by omega)) ⟨hin, pk_le (pf i) a (fun w => jn a (if_pos w).symm (by omega)) (fun w => ⟨hin, jn (pf i) (if_neg (by omega)).symm (by omega)⟩)⟩
theorem tt_clip {post : SX → Prop} (hab : a < b) (hb : b ≤ 100) (hm : m ≤ 100) (hq : ∀ i, i < m → pf i < pt i ∧ pt i ≤ 100) (hl : tt_LA m lf lt lv pf pt pv)
    (hp : ∀ (lf lt lv : Nat → Int32), tt_CL a b m m lf lt lv pf pt pv → post (nI E, nI R, ff, ft, fv, nI (tt_cnt pf pt a b m), tt_aI T, tt_aI F, tt_aI L, V, tt_aI B, tt_aI C, lf, lt, lv)) :
    wpX_clip post (nI E, nI R, ff, ft, fv, nI m, tt_aI T, tt_aI F, tt_aI L, V, tt_aI B, tt_aI C, lf, lt, lv) (nI a) (nI b) := by
  unfold wpX_clip
  dsimp only
  exact ⟨m + 1, tt_clip_loop hab hb hm hq hp m 0 (by omega) lf lt lv ⟨fun j _ hj => hl j hj, fun j hj => by omega⟩⟩
end
/-- what the listed pieces must be so that the entries E .. E + M - 1 come from them -/
def tt_ES (E M t : Nat) (more : Int32) (lf lt lv : Nat → Int32) (th fr tl : Nat → Nat) (sy vl : Nat → Int32) : Prop :=
  ∀ k, k < M → th (E + k) = t ∧ lf k = nI (fr (E + k)) ∧ lt k = nI (tl (E + k)) ∧ lv k + more = vl (E + k) ∧ sy (E + k) ≠ 0 ∧ fr (E + k) < tl (E + k) ∧ tl (E + k) ≤ 100
section
variable {E M t : Nat} {more ff ft fv : Int32} {lf lt lv : Nat → Int32} {th fr tl : Nat → Nat} {sy vl : Nat → Int32}
theorem tt_entL_loop {post : Int32 → SX → Prop} (hM : E + M ≤ 40) (ht : t < 6) (hS : tt_ES E M t more lf lt lv th fr tl sy vl)
    (hp : ∀ (R : Nat) (T F L B C : Nat → Nat) (V : Nat → Int32), R ≤ 3 * (E + M) → tt_RX (E + M) R T F L B C V (tt_K th fr tl sy vl) → post (nI M) (nI (E + M), nI R, ff, ft, fv, nI M, tt_aI T, tt_aI F, tt_aI L, V, tt_aI B, tt_aI C, lf, lt, lv)) :
    ∀ q j, j + q = M → ∀ (R : Nat) (T F L B C : Nat → Nat) (V : Nat → Int32), R ≤ 3 * (E + j) → tt_RX (E + j) R T F L B C V (tt_K th fr tl sy vl) → wX_enterListed_19 post (nI t) more (q + 1) (nI j) (nI (E + j)) (nI R) ff ft fv (nI M) (tt_aI T) (tt_aI F) (tt_aI L) V (tt_aI B) (tt_aI C) lf lt lv := by
  intro q
  induction q with
  | zero =>
    intro j hj R T F L B C V hR h
    have e : j = M := by omega
    subst e
    rw [wX_enterListed_19]
    dsimp only
    exact br_t (nI_le (Nat.le_refl j) (by omega)) (hp R T F L B C V hR h)
  | succ q ih =>
    intro j hj R T F L B C V hR h
    have hin : vp_in (nI j) 100 := vp_in_nI (by omega) (by decide)
    obtain ⟨s1, s2, s3, s4, s5, s6, s7⟩ := hS j (by omega)
    rw [wX_enterListed_19]
    dsimp only
    rw [tt_cl j (by omega), s2, s3, s4]
    refine br_f (nI_ge (by omega) (by omega)) ⟨hin, hin, hin, ?_⟩
    refine tt_enter (K := tt_K th fr tl sy vl) (K' := tt_K th fr tl sy vl) h (by omega) (by omega) ht s6 s7 (fun _ _ _ _ => rfl) ?_ ?_ ?_
    · intro t' d w
      exact tt_K_n (fun u => w ⟨by omega, u.2⟩)
    · intro d d1 d2
      rw [tt_K_s ⟨s1, d1, d2⟩, if_neg s5]
    · intro R' T F L B C V hR' h'
      dsimp only
      exact nm_r (nI_1 j) (ih (j + 1) (by omega) R' T F L B C V (by omega) h')
theorem tt_entL_y {post : Int32 → SX → Prop} {R : Nat} {T F L B C : Nat → Nat} {V : Nat → Int32} (hM : E + M ≤ 40) (ht : t < 6) (hS : tt_ES E M t more lf lt lv th fr tl sy vl) (hR : R ≤ 3 * E) (h : tt_RX E R T F L B C V (tt_K th fr tl sy vl))
    (hp : ∀ (R : Nat) (T F L B C : Nat → Nat) (V : Nat → Int32), R ≤ 3 * (E + M) → tt_RX (E + M) R T F L B C V (tt_K th fr tl sy vl) → post (nI M) (nI (E + M), nI R, ff, ft, fv, nI M, tt_aI T, tt_aI F, tt_aI L, V, tt_aI B, tt_aI C, lf, lt, lv)) :
    wpX_enterListed post (nI E, nI R, ff, ft, fv, nI M, tt_aI T, tt_aI F, tt_aI L, V, tt_aI B, tt_aI C, lf, lt, lv) (nI t) more := by
  unfold wpX_enterListed
  dsimp only
  rw [nI_add]
  refine br_t (nI_le (b := 40) hM (by decide)) ⟨M + 1, ?_⟩
  exact tt_entL_loop hM ht hS hp M 0 (by omega) R T F L B C V (by omega) h
theorem tt_entL_n {post : Int32 → SX → Prop} {R : Nat} {T F L B C : Nat → Nat} {V : Nat → Int32} (hM : 40 < E + M) (hE : E ≤ 40) (hm : M ≤ 100)
    (hp : post (-3) (nI E, nI R, ff, ft, fv, nI M, tt_aI T, tt_aI F, tt_aI L, V, tt_aI B, tt_aI C, lf, lt, lv)) : wpX_enterListed post (nI E, nI R, ff, ft, fv, nI M, tt_aI T, tt_aI F, tt_aI L, V, tt_aI B, tt_aI C, lf, lt, lv) (nI t) more := by
  unfold wpX_enterListed
  dsimp only
  rw [nI_add]
  exact br_f (nI_ge (a := 40) hM (by omega)) hp
end
end
section
/-! the reference's walks: checks, making an entry, the speaker, the list of pieces -/
def tt_Y0 (E : Nat) (th fr tl : Nat → Nat) : Prop := ∀ e, e < E → th e < 6 ∧ fr e < tl e ∧ tl e ≤ 100
section
variable {post : Int32 → Prop} {E n t d : Nat} {qn : Int32} {th fr tl : Nat → Nat} {sy vl qf qt qv : Nat → Int32}
theorem tt_yT_y (ht : t < 6) (h : post 1) : wpY_isThing post (nI E, qn, tt_aI th, tt_aI fr, tt_aI tl, sy, vl, qf, qt, qv) (nI t) := by
  unfold wpY_isThing
  dsimp only
  exact br_f (nI_pos (by omega)) (br_f (nI_ge (b := 6) ht (by decide)) h)
theorem tt_yT_n {p : Int32} (hn : ¬ ∃ t, t < 6 ∧ p = nI t) (h : post 0) : wpY_isThing post (nI E, qn, tt_aI th, tt_aI fr, tt_aI tl, sy, vl, qf, qt, qv) p := by
  unfold wpY_isThing
  dsimp only
  refine br_c (fun _ => h) (fun z => br_t ?_ h)
  rcases pk_ix p (n := 6) (by decide) with y | y | ⟨j, hj, e⟩
  · exact absurd y z
  · exact y
  · exact absurd ⟨j, hj, e⟩ hn
theorem tt_yd_y (hd : d < 100) (h : post 1) : wpY_isDay post (nI E, qn, tt_aI th, tt_aI fr, tt_aI tl, sy, vl, qf, qt, qv) (nI d) := by
  unfold wpY_isDay
  dsimp only
  exact br_f (nI_pos (by omega)) (br_f (nI_ge (b := 100) hd (by decide)) h)
theorem tt_yd_n {p : Int32} (hn : ¬ ∃ d, d < 100 ∧ p = nI d) (h : post 0) : wpY_isDay post (nI E, qn, tt_aI th, tt_aI fr, tt_aI tl, sy, vl, qf, qt, qv) p := by
  unfold wpY_isDay
  dsimp only
  refine br_c (fun _ => h) (fun z => br_t ?_ h)
  rcases pk_ix p (n := 100) (by decide) with y | y | ⟨j, hj, e⟩
  · exact absurd y z
  · exact y
  · exact absurd ⟨j, hj, e⟩ hn
theorem tt_yE_y (hE : E ≤ 40) (hn : n ≤ E) (h : post 1) : wpY_isEntry post (nI E, qn, tt_aI th, tt_aI fr, tt_aI tl, sy, vl, qf, qt, qv) (nI n) := by
  unfold wpY_isEntry
  dsimp only
  exact br_f (nI_pos (by omega)) (br_f (nI_nlt hn (by omega)) h)
theorem tt_yE_n {p : Int32} (hE : E ≤ 40) (hn : ¬ ∃ n, n ≤ E ∧ p = nI n) (h : post 0) : wpY_isEntry post (nI E, qn, tt_aI th, tt_aI fr, tt_aI tl, sy, vl, qf, qt, qv) p := by
  unfold wpY_isEntry
  dsimp only
  refine br_c (fun _ => h) (fun z => br_t ?_ h)
  obtain ⟨j, hj, e⟩ := nI_of z
  rw [e, nI_ltI (by omega) hj]
  by_cases c : j ≤ E
  · exact absurd ⟨j, c, e⟩ hn
  · omega
theorem tt_yD_y {p : Int32} {a b : Nat} (e1 : p &&& 127 = nI a) (e2 : (p >>> ((7 : Int32) &&& 31)) &&& 127 = nI b) (hab : a < b) (hb : b ≤ 100) (h : post 1) : wpY_areDays post (nI E, qn, tt_aI th, tt_aI fr, tt_aI tl, sy, vl, qf, qt, qv) p := by
  unfold wpY_areDays
  dsimp only
  rw [e1, e2]
  exact br_f (nI_ge hab (by omega)) (br_f (nI_nlt (a := 100) hb (by decide)) h)
theorem tt_yD_n {p : Int32} {a b : Nat} (e1 : p &&& 127 = nI a) (e2 : (p >>> ((7 : Int32) &&& 31)) &&& 127 = nI b) (ha : a < 128) (hb : b < 128) (hn : ¬ (a < b ∧ b ≤ 100)) (h : post 0) : wpY_areDays post (nI E, qn, tt_aI th, tt_aI fr, tt_aI tl, sy, vl, qf, qt, qv) p := by
  unfold wpY_areDays
  dsimp only
  rw [e1, e2]
  exact pk_le b a (fun _ => h) (fun z => br_t (nI_lt (a := 100) (by omega) (by omega)) h)
theorem tt_rf_y {p : Int32} {a b : Nat} (ht : t < 6) (e1 : p &&& 127 = nI a) (e2 : (p >>> ((7 : Int32) &&& 31)) &&& 127 = nI b) (hab : a < b) (hb : b ≤ 100) (h : post 0) : wpY_refusal post (nI E, qn, tt_aI th, tt_aI fr, tt_aI tl, sy, vl, qf, qt, qv) (nI t) p := by
  unfold wpY_refusal
  dsimp only
  exact tt_yT_y ht (br_f (by decide) (tt_yD_y e1 e2 hab hb (br_f (by decide) h)))
theorem tt_rf_t {p q : Int32} (hn : ¬ ∃ t, t < 6 ∧ q = nI t) (h : post (-1)) : wpY_refusal post (nI E, qn, tt_aI th, tt_aI fr, tt_aI tl, sy, vl, qf, qt, qv) q p := by
  unfold wpY_refusal
  dsimp only
  exact tt_yT_n hn (br_t rfl h)
theorem tt_rf_d {p : Int32} {a b : Nat} (ht : t < 6) (e1 : p &&& 127 = nI a) (e2 : (p >>> ((7 : Int32) &&& 31)) &&& 127 = nI b) (ha : a < 128) (hb : b < 128) (hn : ¬ (a < b ∧ b ≤ 100)) (h : post (-2)) : wpY_refusal post (nI E, qn, tt_aI th, tt_aI fr, tt_aI tl, sy, vl, qf, qt, qv) (nI t) p := by
  unfold wpY_refusal
  dsimp only
  exact tt_yT_y ht (br_f (by decide) (tt_yD_n e1 e2 ha hb hn (br_t rfl h)))
def tt_pm : Nat → Int32
  | 0 => -1
  | e + 1 => nI e
theorem tt_pm_1 (e : Nat) : nI e + (-1) = tt_pm e := by
  cases e with
  | zero => rw [nI_0]; decide
  | succ e => exact pk_m1 e
theorem tt_pm_2 (e : Nat) : nI e - 1 = tt_pm e := by
  cases e with
  | zero => rw [nI_0]; decide
  | succ e => exact nI_pred e
theorem tt_speaker_loop (hE : E ≤ 40) (h0 : tt_Y0 E th fr tl) (hn : n ≤ E) (ht : t < 1000) (hd : d < 1000)
    (hs : ∀ e, e < n → tt_K th fr tl sy vl n t d = (if sy e = 0 then none else some (vl e)) → post (nI e)) (hno : tt_K th fr tl sy vl n t d = none → post (-1)) :
    ∀ e, e ≤ n → tt_K th fr tl sy vl n t d = tt_K th fr tl sy vl e t d → wY_speaker_5 post (nI t) (nI d) (nI E) qn (tt_aI th) (tt_aI fr) (tt_aI tl) sy vl qf qt qv (e + 1) (tt_pm e) := by
  intro e
  induction e with
  | zero =>
    intro _ h
    rw [wY_speaker_5]
    exact br_t (by show (-1 : Int32) < 0; decide) (hno h)
  | succ e ih =>
    intro he h
    have z := h0 e (by omega)
    have hin : vp_in (nI e) 40 := vp_in_nI (by omega) (by decide)
    have sk : ¬ (th e = t ∧ fr e ≤ d ∧ d < tl e) → ∀ x : Int32, x = nI e + (-1) → wY_speaker_5 post (nI t) (nI d) (nI E) qn (tt_aI th) (tt_aI fr) (tt_aI tl) sy vl qf qt qv (e + 1) x := fun w => nm_r (tt_pm_1 e) (ih (by omega) (h.trans (tt_K_n w)))
    show wY_speaker_5 post (nI t) (nI d) (nI E) qn (tt_aI th) (tt_aI fr) (tt_aI tl) sy vl qf qt qv (e + 1 + 1) (nI e)
    rw [wY_speaker_5]
    dsimp only
    rw [tt_cl e (by omega)]
    exact br_f (nI_pos (by omega)) ⟨hin, pk_eq (th e) t (fun hT => ⟨hin, pk_lt d (fr e) (fun w => sk (by omega)) (fun hF => ⟨hin, pk_le (tl e) d (fun w => sk (by omega)) (fun hL => hs e (by omega) (h.trans (tt_K_s ⟨hT, hF, hL⟩)))⟩)⟩) (fun w => sk (by omega))⟩
theorem tt_speaker (hE : E ≤ 40) (h0 : tt_Y0 E th fr tl) (hn : n ≤ E) (ht : t < 1000) (hd : d < 1000)
    (hs : ∀ e, e < n → tt_K th fr tl sy vl n t d = (if sy e = 0 then none else some (vl e)) → post (nI e)) (hno : tt_K th fr tl sy vl n t d = none → post (-1)) :
    wpY_speaker post (nI E, qn, tt_aI th, tt_aI fr, tt_aI tl, sy, vl, qf, qt, qv) (nI n) (nI t) (nI d) := by
  unfold wpY_speaker
  dsimp only
  exact nm_r (tt_pm_2 n) ⟨n + 1, tt_speaker_loop hE h0 hn ht hd hs hno n (Nat.le_refl _) rfl⟩
theorem tt_knows (hE : E ≤ 40) (h0 : tt_Y0 E th fr tl) (hn : n ≤ E) (ht : t < 1000) (hd : d < 1000)
    (hs : ∀ v, tt_K th fr tl sy vl n t d = some v → post 1) (hno : tt_K th fr tl sy vl n t d = none → post 0) :
    wpY_knows post (nI E, qn, tt_aI th, tt_aI fr, tt_aI tl, sy, vl, qf, qt, qv) (nI n) (nI t) (nI d) := by
  unfold wpY_knows
  dsimp only
  refine tt_speaker hE h0 hn ht hd (fun e he h => ?_) (fun h => br_t (by decide) (hno h))
  rw [tt_cl e (by omega)]
  refine br_f (nI_pos (by omega)) ⟨vp_in_nI (by omega) (by decide), br_c (fun w => hno ?_) (fun w => hs (vl e) ?_)⟩
  · rw [h, if_pos w]
  · rw [h, if_neg w]
theorem tt_val (hE : E ≤ 40) (h0 : tt_Y0 E th fr tl) (hn : n ≤ E) (ht : t < 1000) (hd : d < 1000)
    (hs : ∀ v, tt_K th fr tl sy vl n t d = some v → post v) (hno : tt_K th fr tl sy vl n t d = none → post (-5)) :
    wpY_valueAt post (nI E, qn, tt_aI th, tt_aI fr, tt_aI tl, sy, vl, qf, qt, qv) (nI n) (nI t) (nI d) := by
  unfold wpY_valueAt
  dsimp only
  refine tt_speaker hE h0 hn ht hd (fun e he h => ?_) (fun h => br_t (by decide) (hno h))
  rw [tt_cl e (by omega)]
  have hin : vp_in (nI e) 40 := vp_in_nI (by omega) (by decide)
  refine br_f (nI_pos (by omega)) ⟨hin, br_c (fun w => hno ?_) (fun w => ⟨hin, hs (vl e) ?_⟩)⟩
  · rw [h, if_pos w]
  · rw [h, if_neg w]
end
section
variable {E t a b : Nat} {qn s v : Int32} {th fr tl : Nat → Nat} {sy vl qf qt qv : Nat → Int32}
theorem tt_make {post : Int32 → SY → Prop} (hE : E < 40) (h : post (nI (E + 1)) (nI (E + 1), qn, tt_aI (tt_up th E t), tt_aI (tt_up fr E a), tt_aI (tt_up tl E b), upd sy E (vp_nar .boolean s), upd vl E v, qf, qt, qv)) : wpY_make post (nI E, qn, tt_aI th, tt_aI fr, tt_aI tl, sy, vl, qf, qt, qv) (nI t) (nI a) (nI b) s v := by
  unfold wpY_make
  dsimp only
  rw [tt_cl E (by omega)]
  have hi : vp_in (nI E) 40 := vp_in_nI hE (by decide)
  exact ⟨hi, nm_r (tt_aI_up th E t) ⟨hi, nm_r (tt_aI_up fr E a) ⟨hi, nm_r (tt_aI_up tl E b) ⟨hi, nm_e ⟨hi, nm_e (nm_r (nI_1 E) h)⟩⟩⟩⟩⟩
theorem tt_nb0 : vp_nar .boolean 0 = 0 := rfl
theorem tt_nb1 : vp_nar .boolean 1 = 1 := rfl
end
/-! the pieces grow with the days: pure -/
section
variable {g : Nat → Option Int32} {d m : Nat} {pf pt : Nat → Nat} {pv : Nat → Int32} {v : Int32}
theorem tt_PC_none (h : tt_PC g d m pf pt pv) (hg : g d = none) : tt_PC g (d + 1) m pf pt pv := by
  obtain ⟨h1, h2, h3, h4, h5⟩ := h
  refine ⟨fun i hi => ?_, h2, h3, h4, fun x w hx hw => ?_⟩
  · have := h1 i hi
    omega
  · by_cases e : x = d
    · rw [e, hg] at hw; exact nomatch hw
    · exact h5 x w (by omega) hw
theorem tt_PC_new (h : tt_PC g d m pf pt pv) (hg : g d = some v) (hl : ∀ i, i + 1 = m → pt i = d → pv i ≠ v) : tt_PC g (d + 1) (m + 1) (tt_up pf m d) (tt_up pt m (d + 1)) (upd pv m v) := by
  obtain ⟨h1, h2, h3, h4, h5⟩ := h
  refine ⟨fun i hi => ?_, fun i x hi x1 x2 => ?_, fun i hi => ?_, fun i hi => ?_, fun x w hx hw => ?_⟩
  · by_cases e : i = m
    · rw [e, tt_up_s, tt_up_s]; omega
    · rw [tt_up_n e, tt_up_n e]
      have := h1 i (by omega)
      omega
  · by_cases e : i = m
    · rw [e, tt_up_s] at x1 x2
      rw [e, pk_us]
      have ex : x = d := by omega
      rw [ex]; exact hg
    · rw [tt_up_n e] at x1 x2
      rw [pk_un e]
      exact h2 i x (by omega) x1 x2
  · rw [tt_up_n (j := i) (by omega)]
    have k1 := h1 i (by omega)
    by_cases e : i + 1 = m
    · rw [e, tt_up_s]; omega
    · rw [tt_up_n e]; exact h3 i (by omega)
  · rw [tt_up_n (j := i) (by omega), pk_un (j := i) (by omega)]
    by_cases e : i + 1 = m
    · rw [e, tt_up_s, pk_us]
      exact hl i e
    · rw [tt_up_n e, pk_un e]
      exact h4 i (by omega)
  · by_cases e : x = d
    · refine ⟨m, by omega, ?_⟩
      rw [tt_up_s, tt_up_s]
      omega
    · obtain ⟨i, hi, i1, i2⟩ := h5 x w (by omega) hw
      refine ⟨i, by omega, ?_⟩
      rw [tt_up_n (by omega), tt_up_n (by omega)]
      exact ⟨i1, i2⟩
theorem tt_PC_ext (h : tt_PC g d (m + 1) pf pt pv) (he : pt m = d) (hg : g d = some (pv m)) : tt_PC g (d + 1) (m + 1) pf (tt_up pt m (d + 1)) pv := by
  obtain ⟨h1, h2, h3, h4, h5⟩ := h
  refine ⟨fun i hi => ?_, fun i x hi x1 x2 => ?_, fun i hi => ?_, fun i hi => ?_, fun x w hx hw => ?_⟩
  · have k1 := h1 i hi
    by_cases e : i = m
    · rw [e] at k1
      rw [e, tt_up_s]; omega
    · rw [tt_up_n e]; omega
  · by_cases e : i = m
    · subst e
      rw [tt_up_s] at x2
      by_cases ex : x = d
      · rw [ex]; exact hg
      · exact h2 i x hi x1 (by omega)
    · rw [tt_up_n e] at x2
      exact h2 i x hi x1 x2
  · rw [tt_up_n (j := i) (by omega)]; exact h3 i hi
  · rw [tt_up_n (j := i) (by omega)]; exact h4 i hi
  · by_cases e : x = d
    · have k1 := h1 m (by omega)
      refine ⟨m, by omega, by omega, ?_⟩
      rw [tt_up_s]
      omega
    · obtain ⟨i, hi, i1, i2⟩ := h5 x w (by omega) hw
      refine ⟨i, hi, i1, ?_⟩
      by_cases c : i = m
      · rw [c, tt_up_s]; omega
      · rw [tt_up_n c]; exact i2
theorem tt_LA_new {qf qt qv : Nat → Int32} (h : tt_LA m qf qt qv pf pt pv) : tt_LA (m + 1) (upd qf m (nI d)) (upd qt m (nI (d + 1))) (upd qv m v) (tt_up pf m d) (tt_up pt m (d + 1)) (upd pv m v) := by
  intro j hj
  by_cases e : j = m
  · rw [e, pk_us, pk_us, pk_us, pk_us, tt_up_s, tt_up_s]; exact ⟨rfl, rfl, rfl⟩
  · rw [pk_un e, pk_un e, pk_un e, pk_un e, tt_up_n e, tt_up_n e]; exact h j (by omega)
theorem tt_LA_ext {qf qt qv : Nat → Int32} (h : tt_LA (m + 1) qf qt qv pf pt pv) : tt_LA (m + 1) qf (upd qt m (nI (d + 1))) qv pf (tt_up pt m (d + 1)) pv := by
  intro j hj
  have z := h j hj
  by_cases e : j = m
  · rw [e] at z
    rw [e, pk_us, tt_up_s]; exact ⟨z.1, rfl, z.2.2⟩
  · rw [pk_un e, tt_up_n e]; exact z
end
def tt_OP (op : Int32) (d m : Nat) (pt : Nat → Nat) : Prop := (op = 0 ∧ ∀ i, i + 1 = m → pt i < d) ∨ (op = 1 ∧ 0 < m ∧ ∀ i, i + 1 = m → pt i = d)
section
variable {E n t : Nat} {th fr tl : Nat → Nat} {sy vl : Nat → Int32}
/-- the list has come to hold the pieces (m, pf, pt, pv) -/
def tt_YL (W : (SY → Prop) → Prop) (E n t : Nat) (th fr tl : Nat → Nat) (sy vl : Nat → Int32) : Prop :=
  ∃ (m : Nat) (pf pt : Nat → Nat) (pv qf qt qv : Nat → Int32), tt_LA m qf qt qv pf pt pv ∧ tt_PC (tt_K th fr tl sy vl n t) 100 m pf pt pv ∧ ∀ post : SY → Prop, post (nI E, nI m, tt_aI th, tt_aI fr, tt_aI tl, sy, vl, qf, qt, qv) → W post
theorem tt_YL_imp {W W' : (SY → Prop) → Prop} (h : tt_YL W E n t th fr tl sy vl) (hw : ∀ post, W post → W' post) : tt_YL W' E n t th fr tl sy vl := by
  obtain ⟨m, pf, pt, pv, qf, qt, qv, h1, h2, h3⟩ := h
  exact ⟨m, pf, pt, pv, qf, qt, qv, h1, h2, fun post hp => hw post (h3 post hp)⟩
theorem tt_y80 {post : SY → Prop} {J : Int32 → Int32 → Int32 → (Nat → Int32) → (Nat → Int32) → (Nat → Int32) → (Nat → Int32) → (Nat → Int32) → (Nat → Int32) → (Nat → Int32) → (Nat → Int32) → Prop} {m d : Nat} {v : Int32} {qf qt qv : Nat → Int32} (hm : m < 100)
    (h : J 1 (nI (d + 1)) (nI (m + 1)) (tt_aI th) (tt_aI fr) (tt_aI tl) sy vl (upd qf m (nI d)) (upd qt m (nI (d + 1))) (upd qv m v)) :
    wY_list_80 post J (nI n) (nI t) (nI d) 1 v (nI E) (nI m) (tt_aI th) (tt_aI fr) (tt_aI tl) sy vl qf qt qv := by
  have hi : vp_in (nI m) 100 := vp_in_nI hm (by decide)
  unfold wY_list_80
  rw [tt_cl m (by omega), nI_1 d]
  exact br_f (by decide) ⟨hi, nm_e ⟨hi, nm_e ⟨hi, nm_e (nm_r (nI_1 m) (nm_e h))⟩⟩⟩
theorem tt_ylist_loop (hE : E ≤ 40) (h0 : tt_Y0 E th fr tl) (hn : n ≤ E) (ht : t < 1000) :
    ∀ k d, d + k = 100 → ∀ (m : Nat) (pf pt : Nat → Nat) (pv qf qt qv : Nat → Int32) (op : Int32), tt_LA m qf qt qv pf pt pv → tt_PC (tt_K th fr tl sy vl n t) d m pf pt pv → tt_OP op d m pt →
      tt_YL (fun post => wY_list_10 post (nI n) (nI t) (nI E) (k + 1) op (nI d) (nI m) (tt_aI th) (tt_aI fr) (tt_aI tl) sy vl qf qt qv) E n t th fr tl sy vl := by
  intro k
  induction k with
  | zero =>
    intro d hd m pf pt pv qf qt qv op h1 h2 h3
    have e : d = 100 := by omega
    subst e
    refine ⟨m, pf, pt, pv, qf, qt, qv, h1, h2, fun post hp => ?_⟩
    dsimp only
    rw [wY_list_10]
    dsimp only
    exact br_t (nI_le (b := 100) (Nat.le_refl _) (by decide)) hp
  | succ k ih =>
    intro d hd m pf pt pv qf qt qv op h1 h2 h3
    have hm := tt_PC_m h2
    have h100 : ¬ (100 : Int32) ≤ nI d := nI_ge (b := 100) (by omega) (by decide)
    cases e : tt_K th fr tl sy vl n t d with
    | none =>
      refine tt_YL_imp (ih (d + 1) (by omega) m pf pt pv qf qt qv 0 h1 (tt_PC_none h2 e) (Or.inl ⟨rfl, fun i hi => ?_⟩)) (fun post hp => ?_)
      · have := h2.1 i (by omega)
        omega
      · rw [wY_list_10]
        dsimp only
        refine br_f h100 (tt_knows hE h0 hn ht (by omega) (fun v hv => by rw [e] at hv; exact nomatch hv) (fun _ => ?_))
        refine tt_val hE h0 hn ht (by omega) (fun v hv => by rw [e] at hv; exact nomatch hv) (fun _ => br_t rfl ?_)
        unfold wY_list_80
        exact br_t rfl (nm_r (nI_1 d) hp)
    | some v =>
      have new : (∀ i, i + 1 = m → pt i = d → pv i ≠ v) → tt_YL (fun post => wY_list_80 post (wY_list_10 post (nI n) (nI t) (nI E) (k + 1)) (nI n) (nI t) (nI d) 1 v (nI E) (nI m) (tt_aI th) (tt_aI fr) (tt_aI tl) sy vl qf qt qv) E n t th fr tl sy vl := by
        intro hl
        refine tt_YL_imp (ih (d + 1) (by omega) _ _ _ _ _ _ _ 1 (tt_LA_new (d := d) (v := v) h1) (tt_PC_new h2 e hl) (Or.inr ⟨rfl, by omega, fun i hi => ?_⟩)) (fun post hp => tt_y80 (by omega) hp)
        have ei : i = m := by omega
        rw [ei, tt_up_s]
      have hk : ∀ (post : Int32 → Prop), post 1 → wpY_knows post (nI E, nI m, tt_aI th, tt_aI fr, tt_aI tl, sy, vl, qf, qt, qv) (nI n) (nI t) (nI d) := fun post hp => tt_knows hE h0 hn ht (by omega) (fun _ _ => hp) (fun z => by rw [e] at z; exact nomatch z)
      have hv : ∀ (post : Int32 → Prop), post v → wpY_valueAt post (nI E, nI m, tt_aI th, tt_aI fr, tt_aI tl, sy, vl, qf, qt, qv) (nI n) (nI t) (nI d) := fun post hp => tt_val hE h0 hn ht (by omega) (fun w z => by rw [e] at z; exact Option.some.inj z ▸ hp) (fun z => by rw [e] at z; exact nomatch z)
      rcases h3 with ⟨o1, o2⟩ | ⟨o1, o2, o3⟩
      · subst o1
        refine tt_YL_imp (new (fun i hi hp => by have := o2 i hi; omega)) (fun post hp => ?_)
        rw [wY_list_10]
        dsimp only
        exact br_f h100 (hk _ (hv _ (br_f (by decide) (br_t rfl hp))))
      · subst o1
        obtain ⟨m', rfl⟩ : ∃ m', m = m' + 1 := ⟨m - 1, by omega⟩
        have hin : vp_in (nI m') 100 := vp_in_nI (by omega) (by decide)
        have ev := (h1 m' (by omega)).2.2
        by_cases c : pv m' = v
        · refine tt_YL_imp (ih (d + 1) (by omega) _ _ _ _ _ _ _ 1 (tt_LA_ext (d := d) h1) (tt_PC_ext h2 (o3 m' rfl) (by rw [e, c])) (Or.inr ⟨rfl, by omega, fun i hi => ?_⟩)) (fun post hp => ?_)
          · have ei : i = m' := by omega
            rw [ei, tt_up_s]
          · rw [wY_list_10]
            dsimp only
            refine br_f h100 (hk _ (hv _ (br_f (by decide) (br_f (by decide) ?_))))
            rw [nI_pred, tt_cl m' (by omega), ev, nI_1 d]
            exact ⟨hin, br_t c ⟨hin, nm_e (nm_e hp)⟩⟩
        · refine tt_YL_imp (new (fun i hi _ => ?_)) (fun post hp => ?_)
          · have ei : i = m' := by omega
            rw [ei]; exact c
          · rw [wY_list_10]
            dsimp only
            refine br_f h100 (hk _ (hv _ (br_f (by decide) (br_f (by decide) ?_))))
            rw [nI_pred, tt_cl m' (by omega), ev]
            exact ⟨hin, br_f c hp⟩
theorem tt_ylist {qn : Int32} {qf qt qv : Nat → Int32} (hE : E ≤ 40) (h0 : tt_Y0 E th fr tl) (hn : n ≤ E) (ht : t < 1000) :
    tt_YL (fun post => wpY_list post (nI E, qn, tt_aI th, tt_aI fr, tt_aI tl, sy, vl, qf, qt, qv) (nI n) (nI t)) E n t th fr tl sy vl := by
  refine tt_YL_imp (tt_ylist_loop hE h0 hn ht 100 0 rfl 0 (fun _ => 0) (fun _ => 0) (fun _ => 0) qf qt qv 0 (fun j hj => by omega) ⟨fun i hi => by omega, fun i d hi => by omega, fun i hi => by omega, fun i hi => by omega, fun d v hd => by omega⟩ (Or.inl ⟨rfl, fun i hi => by omega⟩)) (fun post hp => ?_)
  unfold wpY_list
  dsimp only
  exact ⟨101, hp⟩
end
end
section
/-! the reference's entries from pieces -/
def tt_YE (W : (Int32 → SY → Prop) → Prop) (ret Ec E m : Nat) (th fr tl : Nat → Nat) (sy vl qf qt qv : Nat → Int32) (S : (Nat → Nat) → (Nat → Nat) → (Nat → Nat) → (Nat → Int32) → (Nat → Int32) → Prop) : Prop :=
  ∃ (th' fr' tl' : Nat → Nat) (sy' vl' : Nat → Int32), (∀ e, e < Ec → th' e = th e ∧ fr' e = fr e ∧ tl' e = tl e ∧ sy' e = sy e ∧ vl' e = vl e) ∧ S th' fr' tl' sy' vl' ∧ ∀ post : Int32 → SY → Prop, post (nI ret) (nI E, nI m, tt_aI th', tt_aI fr', tt_aI tl', sy', vl', qf, qt, qv) → W post
def tt_SR (E0 t a b m : Nat) (more : Int32) (pf pt : Nat → Nat) (pv : Nat → Int32) (i : Nat) (th fr tl : Nat → Nat) (sy vl : Nat → Int32) : Prop :=
  ∀ j, i ≤ j → j < m → (a < pt j ∧ pf j < b) → th (E0 + tt_cnt pf pt a b j) = t ∧ fr (E0 + tt_cnt pf pt a b j) = tt_mx (pf j) a ∧ tl (E0 + tt_cnt pf pt a b j) = tt_mn (pt j) b ∧ sy (E0 + tt_cnt pf pt a b j) ≠ 0 ∧ vl (E0 + tt_cnt pf pt a b j) = pv j + more
def tt_SC (E0 t m : Nat) (pf pt : Nat → Nat) (pv : Nat → Int32) (i : Nat) (th fr tl : Nat → Nat) (sy vl : Nat → Int32) : Prop :=
  ∀ j, i ≤ j → j < m → th (E0 + j) = t ∧ fr (E0 + j) = pf j ∧ tl (E0 + j) = pt j ∧ sy (E0 + j) ≠ 0 ∧ vl (E0 + j) = pv j
section
variable {E t a b m : Nat} {more : Int32} {th fr tl : Nat → Nat} {sy vl qf qt qv : Nat → Int32} {pf pt : Nat → Nat} {pv : Nat → Int32}
theorem tt_y46_loop {post : Int32 → SY → Prop} (hE : E ≤ 40) (hm : m ≤ 100) (ha : a < 1000) (hb : b < 1000) (hq : ∀ i, i < m → pf i < pt i ∧ pt i ≤ 100) (hl : tt_LA m qf qt qv pf pt pv)
    (hy : E + tt_cnt pf pt a b m ≤ 40 → ∃ n, wY_raise_106 post (nI t) more (nI a) (nI b) (nI (tt_cnt pf pt a b m)) n 0 (nI E) (nI m) (tt_aI th) (tt_aI fr) (tt_aI tl) sy vl qf qt qv)
    (hno : 40 < E + tt_cnt pf pt a b m → post (-3) (nI E, nI m, tt_aI th, tt_aI fr, tt_aI tl, sy, vl, qf, qt, qv)) :
    ∀ q i, i + q = m → wY_raise_46 post (nI t) more (nI a) (nI b) (nI E) (nI m) (tt_aI th) (tt_aI fr) (tt_aI tl) sy vl qf qt qv (q + 1) (nI (tt_cnt pf pt a b i)) (nI i) := by
  intro q
  induction q with
  | zero =>
    intro i hi
    have e : i = m := by omega
    subst e
    have hc := @tt_cnt_le pf pt a b i
    rw [wY_raise_46]
    dsimp only
    rw [nI_add]
    exact br_t (nI_le (Nat.le_refl i) (by omega)) (pk_le (E + tt_cnt pf pt a b i) 40 hy hno)
  | succ q ih =>
    intro i hi
    have hin : vp_in (nI i) 100 := vp_in_nI (by omega) (by decide)
    obtain ⟨e1, e2, e3⟩ := hl i (by omega)
    obtain ⟨p1, p2⟩ := hq i (by omega)
    have sk : ¬ (a < pt i ∧ pf i < b) → ∀ x : Int32, x = nI i + 1 → wY_raise_46 post (nI t) more (nI a) (nI b) (nI E) (nI m) (tt_aI th) (tt_aI fr) (tt_aI tl) sy vl qf qt qv (q + 1) (nI (tt_cnt pf pt a b i)) x := by
      intro w
      refine nm_r (nI_1 i) ?_
      rw [← tt_cnt_n w]
      exact ih (i + 1) (by omega)
    rw [wY_raise_46]
    dsimp only
    rw [tt_cl i (by omega), e1, e2]
    refine br_f (nI_ge (by omega) (by omega)) ⟨hin, pk_le (pt i) a (fun w => sk (by omega)) (fun w => ⟨hin, pk_le b (pf i) (fun u => sk (by omega)) (fun u => nm_r (nI_1 _) (nm_r (nI_1 i) ?_))⟩)⟩
    rw [← tt_cnt_y ⟨w, u⟩]
    exact ih (i + 1) (by omega)
theorem tt_y165 {post : Int32 → SY → Prop} {J : Int32 → Int32 → Int32 → (Nat → Int32) → (Nat → Int32) → (Nat → Int32) → (Nat → Int32) → (Nat → Int32) → (Nat → Int32) → (Nat → Int32) → (Nat → Int32) → Prop} {x7 : Int32} {i x y : Nat} (hi : i < 100) (hx : x < 1000) (hy : y < 1000)
    (h0 : y ≤ x → J (nI (i + 1)) (nI E) (nI m) (tt_aI th) (tt_aI fr) (tt_aI tl) sy vl qf qt qv)
    (h1 : x < y → E < 40 ∧ J (nI (i + 1)) (nI (E + 1)) (nI m) (tt_aI (tt_up th E t)) (tt_aI (tt_up fr E x)) (tt_aI (tt_up tl E y)) (upd sy E (vp_nar .boolean 1)) (upd vl E (qv i + more)) qf qt qv) :
    wY_raise_165 post J (nI t) more (nI a) (nI b) x7 (nI i) (nI x) (nI y) (nI E) (nI m) (tt_aI th) (tt_aI fr) (tt_aI tl) sy vl qf qt qv := by
  have hin : vp_in (nI i) 100 := vp_in_nI hi (by decide)
  unfold wY_raise_165
  rw [tt_cl i (by omega)]
  refine pk_le y x (fun w => nm_r (nI_1 i) (h0 w)) (fun w => ⟨hin, ?_⟩)
  refine tt_make (h1 w).1 ?_
  dsimp only
  exact nm_r (nI_1 i) (h1 w).2
theorem tt_y106_loop {E0 : Nat} (hm : m ≤ 100) (hab : a < b) (hb : b ≤ 100) (hq : ∀ i, i < m → pf i < pt i ∧ pt i ≤ 100) (hl : tt_LA m qf qt qv pf pt pv) (hM : E0 + tt_cnt pf pt a b m ≤ 40) :
    ∀ q i, i + q = m → ∀ (th fr tl : Nat → Nat) (sy vl : Nat → Int32), tt_YE (fun post => wY_raise_106 post (nI t) more (nI a) (nI b) (nI (tt_cnt pf pt a b m)) (q + 1) (nI i) (nI (E0 + tt_cnt pf pt a b i)) (nI m) (tt_aI th) (tt_aI fr) (tt_aI tl) sy vl qf qt qv) (tt_cnt pf pt a b m) (E0 + tt_cnt pf pt a b i) (E0 + tt_cnt pf pt a b m) m th fr tl sy vl qf qt qv (tt_SR E0 t a b m more pf pt pv i) := by
  intro q
  induction q with
  | zero =>
    intro i hi th fr tl sy vl
    have e : i = m := by omega
    subst e
    refine ⟨th, fr, tl, sy, vl, fun e he => ⟨rfl, rfl, rfl, rfl, rfl⟩, fun j h1 h2 => by omega, fun post hp => ?_⟩
    dsimp only
    rw [wY_raise_106]
    exact br_t (nI_le (Nat.le_refl i) (by omega)) hp
  | succ q ih =>
    intro i hi th fr tl sy vl
    have hin : vp_in (nI i) 100 := vp_in_nI (by omega) (by decide)
    obtain ⟨e1, e2, e3⟩ := hl i (by omega)
    obtain ⟨p1, p2⟩ := hq i (by omega)
    have hh := tt_hit (x := pf i) (y := pt i) hab p1
    -- the row's walk, given the two continuations
    have walk : ∀ post : Int32 → SY → Prop, (¬ (a < pt i ∧ pf i < b) → wY_raise_106 post (nI t) more (nI a) (nI b) (nI (tt_cnt pf pt a b m)) (q + 1) (nI (i + 1)) (nI (E0 + tt_cnt pf pt a b i)) (nI m) (tt_aI th) (tt_aI fr) (tt_aI tl) sy vl qf qt qv) → ((a < pt i ∧ pf i < b) → E0 + tt_cnt pf pt a b i < 40 ∧ wY_raise_106 post (nI t) more (nI a) (nI b) (nI (tt_cnt pf pt a b m)) (q + 1) (nI (i + 1)) (nI (E0 + tt_cnt pf pt a b i + 1)) (nI m) (tt_aI (tt_up th (E0 + tt_cnt pf pt a b i) t)) (tt_aI (tt_up fr (E0 + tt_cnt pf pt a b i) (tt_mx (pf i) a))) (tt_aI (tt_up tl (E0 + tt_cnt pf pt a b i) (tt_mn (pt i) b))) (upd sy (E0 + tt_cnt pf pt a b i) (vp_nar .boolean 1)) (upd vl (E0 + tt_cnt pf pt a b i) (qv i + more)) qf qt qv) → wY_raise_106 post (nI t) more (nI a) (nI b) (nI (tt_cnt pf pt a b m)) (q + 2) (nI i) (nI (E0 + tt_cnt pf pt a b i)) (nI m) (tt_aI th) (tt_aI fr) (tt_aI tl) sy vl qf qt qv := by
      intro post w0 w1
      have c165 : ∀ x y, x = tt_mx (pf i) a → y = tt_mn (pt i) b → x < 1000 → y < 1000 → wY_raise_165 post (wY_raise_106 post (nI t) more (nI a) (nI b) (nI (tt_cnt pf pt a b m)) (q + 1)) (nI t) more (nI a) (nI b) (nI (tt_cnt pf pt a b m)) (nI i) (nI x) (nI y) (nI (E0 + tt_cnt pf pt a b i)) (nI m) (tt_aI th) (tt_aI fr) (tt_aI tl) sy vl qf qt qv := by
        intro x y ex ey hx hy
        refine tt_y165 (by omega) hx hy (fun w => w0 (fun u => by have := hh.mpr u; omega)) (fun w => ?_)
        rw [ex, ey]
        exact w1 (hh.mp (by omega))
      have jn : ∀ x, x = tt_mx (pf i) a → x < 1000 → wY_raise_139 post (wY_raise_106 post (nI t) more (nI a) (nI b) (nI (tt_cnt pf pt a b m)) (q + 1)) (nI t) more (nI a) (nI b) (nI (tt_cnt pf pt a b m)) (nI i) (nI x) (nI (E0 + tt_cnt pf pt a b i)) (nI m) (tt_aI th) (tt_aI fr) (tt_aI tl) sy vl qf qt qv := by
        intro x ex hx
        unfold wY_raise_139
        rw [tt_cl i (by omega), e2]
        exact ⟨hin, pk_le b (pt i) (fun w => c165 x b ex (if_pos w).symm hx (by omega)) (fun w => ⟨hin, c165 x (pt i) ex (if_neg (by omega)).symm hx (by omega)⟩)⟩
      rw [wY_raise_106]
      dsimp only
      rw [tt_cl i (by omega), e1]
      exact br_f (nI_ge (by omega) (by omega)) ⟨hin, pk_le (pf i) a (fun w => jn a (if_pos w).symm (by omega)) (fun w => ⟨hin, jn (pf i) (if_neg (by omega)).symm (by omega)⟩)⟩
    by_cases c : a < pt i ∧ pf i < b
    · have hlt := tt_cnt_lt (i := i) (j := m) (by omega) c
      have hE : E0 + tt_cnt pf pt a b i < 40 := by omega
      have z := ih (i + 1) (by omega) (tt_up th (E0 + tt_cnt pf pt a b i) t) (tt_up fr (E0 + tt_cnt pf pt a b i) (tt_mx (pf i) a)) (tt_up tl (E0 + tt_cnt pf pt a b i) (tt_mn (pt i) b)) (upd sy (E0 + tt_cnt pf pt a b i) (vp_nar .boolean 1)) (upd vl (E0 + tt_cnt pf pt a b i) (qv i + more))
      rw [tt_cnt_y c] at z
      obtain ⟨th', fr', tl', sy', vl', g1, g2, g3⟩ := z
      refine ⟨th', fr', tl', sy', vl', fun e he => ?_, fun j h1 h2 h3 => ?_, fun post hp => walk post (fun w => absurd c w) (fun _ => ⟨hE, g3 post hp⟩)⟩
      · have z := g1 e (by omega)
        have ne : e ≠ E0 + tt_cnt pf pt a b i := by omega
        rw [tt_up_n ne, tt_up_n ne, tt_up_n ne, pk_un ne, pk_un ne] at z
        exact z
      · by_cases ej : j = i
        · have z := g1 (E0 + tt_cnt pf pt a b i) (by omega)
          rw [tt_up_s, tt_up_s, tt_up_s, pk_us, pk_us, e3] at z
          rw [ej]
          refine ⟨z.1, z.2.1, z.2.2.1, ?_, z.2.2.2.2⟩
          rw [z.2.2.2.1, tt_nb1]
          decide
        · exact g2 j (by omega) h2 h3
    · have z := ih (i + 1) (by omega) th fr tl sy vl
      rw [tt_cnt_n c] at z
      obtain ⟨th', fr', tl', sy', vl', g1, g2, g3⟩ := z
      refine ⟨th', fr', tl', sy', vl', g1, fun j h1 h2 h3 => ?_, fun post hp => walk post (fun _ => g3 post hp) (fun w => absurd w c)⟩
      by_cases ej : j = i
      · rw [ej] at h3; exact absurd h3 c
      · exact g2 j (by omega) h2 h3
theorem tt_ycopy_loop {E0 : Nat} (hl : tt_LA m qf qt qv pf pt pv) (hM : E0 + m ≤ 40) :
    ∀ q i, i + q = m → ∀ (th fr tl : Nat → Nat) (sy vl : Nat → Int32), tt_YE (fun post => wY_copy_46 post (nI t) (q + 1) (nI i) (nI (E0 + i)) (nI m) (tt_aI th) (tt_aI fr) (tt_aI tl) sy vl qf qt qv) m (E0 + i) (E0 + m) m th fr tl sy vl qf qt qv (tt_SC E0 t m pf pt pv i) := by
  intro q
  induction q with
  | zero =>
    intro i hi th fr tl sy vl
    have e : i = m := by omega
    subst e
    refine ⟨th, fr, tl, sy, vl, fun e he => ⟨rfl, rfl, rfl, rfl, rfl⟩, fun j h1 h2 => by omega, fun post hp => ?_⟩
    dsimp only
    rw [wY_copy_46]
    exact br_t (nI_le (Nat.le_refl i) (by omega)) hp
  | succ q ih =>
    intro i hi th fr tl sy vl
    have hin : vp_in (nI i) 100 := vp_in_nI (by omega) (by decide)
    obtain ⟨e1, e2, e3⟩ := hl i (by omega)
    obtain ⟨th', fr', tl', sy', vl', g1, g2, g3⟩ := ih (i + 1) (by omega) (tt_up th (E0 + i) t) (tt_up fr (E0 + i) (pf i)) (tt_up tl (E0 + i) (pt i)) (upd sy (E0 + i) (vp_nar .boolean 1)) (upd vl (E0 + i) (pv i))
    refine ⟨th', fr', tl', sy', vl', fun e he => ?_, fun j h1 h2 => ?_, fun post hp => ?_⟩
    · have z := g1 e (by omega)
      have ne : e ≠ E0 + i := by omega
      rw [tt_up_n ne, tt_up_n ne, tt_up_n ne, pk_un ne, pk_un ne] at z
      exact z
    · by_cases ej : j = i
      · have z := g1 (E0 + i) (by omega)
        rw [tt_up_s, tt_up_s, tt_up_s, pk_us, pk_us] at z
        rw [ej]
        refine ⟨z.1, z.2.1, z.2.2.1, ?_, z.2.2.2.2⟩
        rw [z.2.2.2.1, tt_nb1]
        decide
      · exact g2 j (by omega) h2
    · dsimp only
      rw [wY_copy_46]
      dsimp only
      rw [tt_cl i (by omega), e1, e2, e3]
      refine br_f (nI_ge (by omega) (by omega)) ⟨hin, hin, hin, ?_⟩
      refine tt_make (by omega) ?_
      dsimp only
      exact nm_r (nI_1 i) (g3 post hp)
end
end
section
/-! sums -/
def tt_sm (f : Nat → Int32) : Nat → Int32
  | 0 => 0
  | n + 1 => tt_sm f n + f n
theorem tt_sm_c {f g : Nat → Int32} : ∀ n, (∀ i, i < n → f i = g i) → tt_sm f n = tt_sm g n := by
  intro n
  induction n with
  | zero => intro _; rfl
  | succ n ih =>
    intro h
    show tt_sm f n + f n = tt_sm g n + g n
    rw [ih (fun i hi => h i (by omega)), h n (by omega)]
theorem tt_sm_0 {f : Nat → Int32} : ∀ n, (∀ i, i < n → f i = 0) → tt_sm f n = 0 := by
  intro n
  induction n with
  | zero => intro _; rfl
  | succ n ih =>
    intro h
    show tt_sm f n + f n = 0
    rw [ih (fun i hi => h i (by omega)), h n (by omega), Int32.add_zero]
theorem tt_sm_1 {f : Nat → Int32} {k : Nat} : ∀ n, k < n → (∀ i, i < n → i ≠ k → f i = 0) → tt_sm f n = f k := by
  intro n
  induction n with
  | zero => intro h; omega
  | succ n ih =>
    intro hk h
    show tt_sm f n + f n = f k
    by_cases e : k = n
    · rw [e, tt_sm_0 n (fun i hi => h i (by omega) (by omega)), Int32.zero_add]
    · rw [ih (by omega) (fun i hi hn => h i (by omega) hn), h n (by omega) (by omega), Int32.add_zero]
theorem tt_sm_a {f g : Nat → Int32} : ∀ n, tt_sm (fun i => f i + g i) n = tt_sm f n + tt_sm g n := by
  intro n
  induction n with
  | zero => exact (Int32.add_zero 0).symm
  | succ n ih =>
    show tt_sm (fun i => f i + g i) n + (f n + g n) = (tt_sm f n + f n) + (tt_sm g n + g n)
    rw [ih, Int32.add_assoc, Int32.add_assoc, ← Int32.add_assoc (tt_sm g n), Int32.add_comm (tt_sm g n) (f n), Int32.add_assoc (f n)]
theorem tt_sm_x {f : Nat → Nat → Int32} (n : Nat) : ∀ m, tt_sm (fun i => tt_sm (f i) m) n = tt_sm (fun j => tt_sm (fun i => f i j) n) m := by
  intro m
  induction m with
  | zero => exact tt_sm_0 n (fun _ _ => rfl)
  | succ m ih =>
    show tt_sm (fun i => tt_sm (f i) m + f i m) n = tt_sm (fun j => tt_sm (fun i => f i j) n) m + tt_sm (fun i => f i m) n
    rw [tt_sm_a, ih]
def tt_fx (F L B C : Nat → Nat) (V : Nat → Int32) (n d : Nat) : Nat → Int32 := fun r => if (F r ≤ d ∧ d < L r) ∧ tt_kn B C r n then V r else 0
def tt_fy (K : Nat → Nat → Nat → Option Int32) (n d : Nat) : Nat → Int32 := fun t => (K n t d).getD 0
section
variable {E R n t d : Nat} {ff ft fv ls : Int32} {T F L B C : Nat → Nat} {V lf lt lv : Nat → Int32} {K : Nat → Nat → Nat → Option Int32}
theorem tt_sum (h : tt_RX E R T F L B C V K) (hn : n ≤ E) : tt_sm (tt_fx F L B C V n d) R = tt_sm (tt_fy K n d) 6 := by
  have e1 : tt_sm (tt_fx F L B C V n d) R = tt_sm (fun r => tt_sm (fun t => if tt_cv T F L r t d ∧ tt_kn B C r n then V r else 0) 6) R := by
    refine tt_sm_c R (fun r hr => ?_)
    have z := h.1 r hr
    rw [tt_sm_1 (k := T r) 6 z.1 (fun i hi hne => if_neg (fun u => hne u.1.1.symm))]
    show (if (F r ≤ d ∧ d < L r) ∧ tt_kn B C r n then V r else 0) = (if (T r = T r ∧ F r ≤ d ∧ d < L r) ∧ tt_kn B C r n then V r else 0)
    by_cases c : (F r ≤ d ∧ d < L r) ∧ tt_kn B C r n
    · rw [if_pos c, if_pos ⟨⟨rfl, c.1⟩, c.2⟩]
    · rw [if_neg c, if_neg (fun u => c ⟨u.1.2, u.2⟩)]
  rw [e1, tt_sm_x]
  refine tt_sm_c 6 (fun t ht => ?_)
  show tt_sm (fun r => if tt_cv T F L r t d ∧ tt_kn B C r n then V r else 0) R = (K n t d).getD 0
  cases e : K n t d with
  | none =>
    refine tt_sm_0 R (fun r hr => if_neg (fun u => ?_))
    have z := h.2.1 r n t d hr hn u.1 u.2
    rw [e] at z
    exact nomatch z
  | some v =>
    obtain ⟨q, hq, hc, hk⟩ := h.2.2.1 n t d v hn e
    have z := h.2.1 q n t d hq hn hc hk
    rw [e] at z
    rw [tt_sm_1 (k := q) R hq (fun r hr hne => if_neg (fun u => hne (h.2.2.2 r q n t d hr hq hn u.1 hc u.2 hk)))]
    show (if tt_cv T F L q t d ∧ tt_kn B C q n then V q else 0) = v
    rw [if_pos ⟨hc, hk⟩]
    exact (Option.some.inj z).symm
theorem tt_xsum_loop {post : Int32 → Prop} (hE : E ≤ 40) (hR : R ≤ 120) (h0 : tt_R0 E R T F L B C) (hn : n < 1000) (hd : d < 1000) (hp : post (tt_sm (tt_fx F L B C V n d) R)) :
    ∀ k i, i + k = R → wX_sumAt_26 post (nI n) (nI d) (nI E) (nI R) ff ft fv ls (tt_aI T) (tt_aI F) (tt_aI L) V (tt_aI B) (tt_aI C) lf lt lv (k + 1) (tt_sm (tt_fx F L B C V n d) i) (nI i) := by
  intro k
  induction k with
  | zero =>
    intro i hi
    have e : i = R := by omega
    subst e
    rw [wX_sumAt_26]
    exact br_t (nI_le (Nat.le_refl i) (by omega)) hp
  | succ k ih =>
    intro i hi
    have z := h0 i (by omega)
    have hin : vp_in (nI i) 124 := vp_in_nI (by omega) (by decide)
    have sk : ¬ ((F i ≤ d ∧ d < L i) ∧ tt_kn B C i n) → ∀ x : Int32, x = nI i + 1 → wX_sumAt_26 post (nI n) (nI d) (nI E) (nI R) ff ft fv ls (tt_aI T) (tt_aI F) (tt_aI L) V (tt_aI B) (tt_aI C) lf lt lv (k + 1) (tt_sm (tt_fx F L B C V n d) i) x := by
      intro w
      refine nm_r (nI_1 i) ?_
      have e : tt_sm (tt_fx F L B C V n d) i = tt_sm (tt_fx F L B C V n d) (i + 1) := by
        show _ = tt_sm (tt_fx F L B C V n d) i + (if (F i ≤ d ∧ d < L i) ∧ tt_kn B C i n then V i else 0)
        rw [if_neg w, Int32.add_zero]
      rw [e]
      exact ih (i + 1) (by omega)
    have tk : ((F i ≤ d ∧ d < L i) ∧ tt_kn B C i n) → tt_sm (tt_fx F L B C V n d) i + V i = tt_sm (tt_fx F L B C V n d) (i + 1) := by
      intro w
      show _ = tt_sm (tt_fx F L B C V n d) i + (if (F i ≤ d ∧ d < L i) ∧ tt_kn B C i n then V i else 0)
      rw [if_pos w]
    rw [wX_sumAt_26]
    dsimp only
    rw [tt_cl i (by omega)]
    unfold wX_sumAt_61 wX_sumAt_62
    rw [tt_cl i (by omega)]
    refine br_f (nI_ge (by omega) (by omega)) ⟨hin, pk_lt d (F i) (fun w => br_t rfl (sk (by omega))) (fun hF => ⟨hin, pk_le (L i) d (fun w => br_t rfl (sk (by omega))) (fun hL => br_f (by decide) ?_)⟩)⟩
    exact tt_isKnown (by omega) hn (by omega) (by omega) (fun w => br_f (by decide) ⟨hin, nm_r (tk ⟨⟨hF, hL⟩, w⟩) (nm_r (nI_1 i) (ih (i + 1) (by omega)))⟩) (fun w => br_t rfl (sk (fun y => w y.2)))
theorem tt_xsumAt {post : Int32 → Prop} (hE : E ≤ 40) (hR : R ≤ 120) (h0 : tt_R0 E R T F L B C) (hn : n ≤ E) (hd : d < 100) (hp : post (tt_sm (tt_fx F L B C V n d) R)) : wpX_sumAt post (nI E, nI R, ff, ft, fv, ls, tt_aI T, tt_aI F, tt_aI L, V, tt_aI B, tt_aI C, lf, lt, lv) (nI n) (nI d) := by
  unfold wpX_sumAt
  dsimp only
  exact tt_bE_y hE hn (br_t rfl (tt_bd_y hd (br_t rfl ⟨R + 1, tt_xsum_loop hE hR h0 (by omega) (by omega) hp R 0 (by omega)⟩)))
end
section
variable {E n m t d : Nat} {qn : Int32} {th fr tl : Nat → Nat} {sy vl qf qt qv : Nat → Int32}
theorem tt_kn_s {post : Int32 → Prop} {v : Int32} (hE : E ≤ 40) (h0 : tt_Y0 E th fr tl) (hn : n ≤ E) (ht : t < 1000) (hd : d < 1000) (e : tt_K th fr tl sy vl n t d = some v) (h : post 1) : wpY_knows post (nI E, qn, tt_aI th, tt_aI fr, tt_aI tl, sy, vl, qf, qt, qv) (nI n) (nI t) (nI d) :=
  tt_knows hE h0 hn ht hd (fun _ _ => h) (fun z => by rw [e] at z; exact nomatch z)
theorem tt_kn_n {post : Int32 → Prop} (hE : E ≤ 40) (h0 : tt_Y0 E th fr tl) (hn : n ≤ E) (ht : t < 1000) (hd : d < 1000) (e : tt_K th fr tl sy vl n t d = none) (h : post 0) : wpY_knows post (nI E, qn, tt_aI th, tt_aI fr, tt_aI tl, sy, vl, qf, qt, qv) (nI n) (nI t) (nI d) :=
  tt_knows hE h0 hn ht hd (fun v z => by rw [e] at z; exact nomatch z) (fun _ => h)
theorem tt_va_s {post : Int32 → Prop} {v : Int32} (hE : E ≤ 40) (h0 : tt_Y0 E th fr tl) (hn : n ≤ E) (ht : t < 1000) (hd : d < 1000) (e : tt_K th fr tl sy vl n t d = some v) (h : post v) : wpY_valueAt post (nI E, qn, tt_aI th, tt_aI fr, tt_aI tl, sy, vl, qf, qt, qv) (nI n) (nI t) (nI d) :=
  tt_val hE h0 hn ht hd (fun w z => by rw [e] at z; exact Option.some.inj z ▸ h) (fun z => by rw [e] at z; exact nomatch z)
theorem tt_va_n {post : Int32 → Prop} (hE : E ≤ 40) (h0 : tt_Y0 E th fr tl) (hn : n ≤ E) (ht : t < 1000) (hd : d < 1000) (e : tt_K th fr tl sy vl n t d = none) (h : post (-5)) : wpY_valueAt post (nI E, qn, tt_aI th, tt_aI fr, tt_aI tl, sy, vl, qf, qt, qv) (nI n) (nI t) (nI d) :=
  tt_val hE h0 hn ht hd (fun v z => by rw [e] at z; exact nomatch z) (fun _ => h)
theorem tt_ysum_loop {post : Int32 → Prop} (hE : E ≤ 40) (h0 : tt_Y0 E th fr tl) (hn : n ≤ E) (hd : d < 1000) (hp : post (tt_sm (tt_fy (tt_K th fr tl sy vl) n d) 6)) :
    ∀ k t, t + k = 6 → wY_sumAt_27 post (nI n) (nI d) (nI E) qn (tt_aI th) (tt_aI fr) (tt_aI tl) sy vl qf qt qv (k + 1) (tt_sm (tt_fy (tt_K th fr tl sy vl) n d) t) (nI t) := by
  intro k
  induction k with
  | zero =>
    intro t ht
    have e : t = 6 := by omega
    subst e
    rw [wY_sumAt_27]
    exact br_t (nI_le (b := 6) (Nat.le_refl _) (by decide)) hp
  | succ k ih =>
    intro t ht
    rw [wY_sumAt_27]
    dsimp only
    refine br_f (nI_ge (b := 6) (by omega) (by decide)) ?_
    have go := ih (t + 1) (by omega)
    have e1 : tt_sm (tt_fy (tt_K th fr tl sy vl) n d) (t + 1) = tt_sm (tt_fy (tt_K th fr tl sy vl) n d) t + (tt_K th fr tl sy vl n t d).getD 0 := rfl
    cases e : tt_K th fr tl sy vl n t d with
    | none =>
      refine tt_kn_n hE h0 hn (by omega) hd e (br_t rfl (nm_r (nI_1 t) ?_))
      rw [e1, e] at go
      rw [← Int32.add_zero (tt_sm (tt_fy (tt_K th fr tl sy vl) n d) t)]
      exact go
    | some v =>
      refine tt_kn_s hE h0 hn (by omega) hd e (br_f (by decide) (tt_va_s hE h0 hn (by omega) hd e (nm_e (nm_r (nI_1 t) ?_))))
      rw [e1, e] at go
      exact go
theorem tt_ysumAt {post : Int32 → Prop} (hE : E ≤ 40) (h0 : tt_Y0 E th fr tl) (hn : n ≤ E) (hd : d < 100) (hp : post (tt_sm (tt_fy (tt_K th fr tl sy vl) n d) 6)) : wpY_sumAt post (nI E, qn, tt_aI th, tt_aI fr, tt_aI tl, sy, vl, qf, qt, qv) (nI n) (nI d) := by
  unfold wpY_sumAt
  dsimp only
  exact tt_yE_y hE hn (br_f (by decide) (tt_yd_y hd (br_f (by decide) ⟨7, tt_ysum_loop hE h0 hn (by omega) hp 6 0 rfl⟩)))
theorem tt_same {post : Int32 → Prop} (hE : E ≤ 40) (h0 : tt_Y0 E th fr tl) (hn : n ≤ E) (hm : m ≤ E) (ht : t < 1000) (hd : d < 1000)
    (h1 : tt_K th fr tl sy vl n t d = tt_K th fr tl sy vl m t d → post 1) (h2 : tt_K th fr tl sy vl n t d ≠ tt_K th fr tl sy vl m t d → post 0) : wpY_same post (nI E, qn, tt_aI th, tt_aI fr, tt_aI tl, sy, vl, qf, qt, qv) (nI n) (nI m) (nI t) (nI d) := by
  unfold wpY_same
  dsimp only
  cases e : tt_K th fr tl sy vl n t d with
  | none =>
    cases e' : tt_K th fr tl sy vl m t d with
    | none => exact tt_kn_n hE h0 hn ht hd e (tt_kn_n hE h0 hm ht hd e' (br_t rfl (br_t rfl (h1 (e.trans e'.symm)))))
    | some v => exact tt_kn_n hE h0 hn ht hd e (tt_kn_s hE h0 hm ht hd e' (br_f (by decide) (h2 (by rw [e, e']; exact fun z => nomatch z))))
  | some w =>
    cases e' : tt_K th fr tl sy vl m t d with
    | none => exact tt_kn_s hE h0 hn ht hd e (tt_kn_n hE h0 hm ht hd e' (br_f (by decide) (h2 (by rw [e, e']; exact fun z => nomatch z))))
    | some v =>
      refine tt_kn_s hE h0 hn ht hd e (tt_kn_s hE h0 hm ht hd e' (br_t rfl (br_f (by decide) (tt_va_s hE h0 hn ht hd e (tt_va_s hE h0 hm ht hd e' (br_c (fun z => h1 ?_) (fun z => h2 ?_)))))))
      · rw [e, e', z]
      · rw [e, e']
        exact fun y => z (Option.some.inj y)
end
/-! days that differ -/
def tt_df (g h : Nat → Option Int32) : Nat → Nat
  | 0 => 0
  | d + 1 => tt_df g h d + (if g d = h d then 0 else 1)
theorem tt_df_c {g h : Nat → Option Int32} {d : Nat} : ∀ k, (∀ x, d ≤ x → x < d + k → g x = g d ∧ h x = h d) → tt_df g h (d + k) = tt_df g h d + (if g d = h d then 0 else k) := by
  intro k
  induction k with
  | zero =>
    intro _
    by_cases c : g d = h d
    · rw [if_pos c]; rfl
    · rw [if_neg c]; rfl
  | succ k ih =>
    intro hx
    have e := ih (fun x x1 x2 => hx x x1 (by omega))
    obtain ⟨y1, y2⟩ := hx (d + k) (by omega) (by omega)
    show tt_df g h (d + k) + (if g (d + k) = h (d + k) then 0 else 1) = _
    rw [e, y1, y2]
    by_cases c : g d = h d
    · rw [if_pos c, if_pos c, if_pos c]
    · rw [if_neg c, if_neg c, if_neg c]; omega
theorem tt_df_le {g h : Nat → Option Int32} : ∀ d, tt_df g h d ≤ d := by
  intro d
  induction d with
  | zero => exact Nat.le_refl _
  | succ d ih =>
    show tt_df g h d + (if g d = h d then 0 else 1) ≤ d + 1
    by_cases c : g d = h d
    · rw [if_pos c]; omega
    · rw [if_neg c]; omega
section
variable {E n m t : Nat} {qn : Int32} {th fr tl : Nat → Nat} {sy vl qf qt qv : Nat → Int32}
theorem tt_ychg_loop {post : Int32 → Prop} (hE : E ≤ 40) (h0 : tt_Y0 E th fr tl) (hn : n ≤ E) (hm : m ≤ E) (ht : t < 1000) (hp : post (nI (tt_df (tt_K th fr tl sy vl n t) (tt_K th fr tl sy vl m t) 100))) :
    ∀ k d, d + k = 100 → wY_changed_35 post (nI n) (nI m) (nI t) (nI E) qn (tt_aI th) (tt_aI fr) (tt_aI tl) sy vl qf qt qv (k + 1) (nI (tt_df (tt_K th fr tl sy vl n t) (tt_K th fr tl sy vl m t) d)) (nI d) := by
  intro k
  induction k with
  | zero =>
    intro d hd
    have e : d = 100 := by omega
    subst e
    rw [wY_changed_35]
    exact br_t (nI_le (b := 100) (Nat.le_refl _) (by decide)) hp
  | succ k ih =>
    intro d hd
    have go := ih (d + 1) (by omega)
    have e1 : tt_df (tt_K th fr tl sy vl n t) (tt_K th fr tl sy vl m t) (d + 1) = tt_df (tt_K th fr tl sy vl n t) (tt_K th fr tl sy vl m t) d + (if tt_K th fr tl sy vl n t d = tt_K th fr tl sy vl m t d then 0 else 1) := rfl
    rw [e1] at go
    rw [wY_changed_35]
    dsimp only
    refine br_f (nI_ge (b := 100) (by omega) (by decide)) (tt_same hE h0 hn hm ht (by omega) (fun w => ?_) (fun w => ?_))
    · rw [if_pos w] at go
      exact br_f (by decide) (nm_r (nI_1 d) go)
    · rw [if_neg w] at go
      exact br_t rfl (nm_r (nI_1 _) (nm_r (nI_1 d) go))
theorem tt_ychg {post : Int32 → Prop} (hE : E ≤ 40) (h0 : tt_Y0 E th fr tl) (hn : n ≤ E) (hm : m ≤ E) (ht : t < 6) (hp : post (nI (tt_df (tt_K th fr tl sy vl n t) (tt_K th fr tl sy vl m t) 100))) : wpY_changed post (nI E, qn, tt_aI th, tt_aI fr, tt_aI tl, sy, vl, qf, qt, qv) (nI n) (nI m) (nI t) := by
  unfold wpY_changed
  dsimp only
  exact tt_yE_y hE hn (br_f (by decide) (tt_yE_y hE hm (br_f (by decide) (tt_yT_y ht (br_f (by decide) ⟨101, tt_ychg_loop hE h0 hn hm (by omega) hp 100 0 rfl⟩)))))
end
section
variable {E R n m t d : Nat} {ff ft fv ls : Int32} {T F L B C : Nat → Nat} {V lf lt lv : Nat → Int32} {K : Nat → Nat → Nat → Option Int32}
theorem tt_NB_c (h : tt_RX E R T F L B C V K) (hn : n ≤ E) {bo : Nat} (hb : tt_NB T F L B C n t d bo R) {x : Nat} (h1 : d ≤ x) (h2 : x < bo) : K n t x = K n t d := by
  cases e : K n t d with
  | none =>
    cases e' : K n t x with
    | none => rfl
    | some v =>
      exfalso
      obtain ⟨q, hq, ⟨c1, c2, c3⟩, hk⟩ := h.2.2.1 n t x v hn e'
      have z := hb q hq c1 hk
      have y := h.2.1 q n t d hq hn ⟨c1, by omega, by omega⟩ hk
      rw [e] at y
      exact nomatch y
  | some v =>
    obtain ⟨q, hq, ⟨c1, c2, c3⟩, hk⟩ := h.2.2.1 n t d v hn e
    have z := hb q hq c1 hk
    have y := h.2.1 q n t d hq hn ⟨c1, c2, c3⟩ hk
    rw [h.2.1 q n t x hq hn ⟨c1, by omega, by omega⟩ hk, ← y, e]
theorem tt_sameAt {post : Int32 → Prop} (h : tt_RX E R T F L B C V K) (hE : E ≤ 40) (hR : R ≤ 120) (hn : n ≤ E) (hm : m ≤ E) (ht : t < 1000) (hd : d < 1000)
    (h1 : K n t d = K m t d → post 1) (h2 : K n t d ≠ K m t d → post 0) : wpX_sameAt post (nI E, nI R, ff, ft, fv, ls, tt_aI T, tt_aI F, tt_aI L, V, tt_aI B, tt_aI C, lf, lt, lv) (nI n) (nI m) (nI t) (nI d) := by
  have neg : ¬ (0 : Int32) ≤ -1 := by decide
  unfold wpX_sameAt
  dsimp only
  refine tt_rowK h hE hR hn ht hd (fun r hr hc hk e => ?_) (fun e => ?_)
  · have ri : vp_in (nI r) 124 := vp_in_nI (by omega) (by decide)
    refine tt_rowK h hE hR hm ht hd (fun q hq hc' hk' e' => ?_) (fun e' => ?_)
    · have qi : vp_in (nI q) 124 := vp_in_nI (by omega) (by decide)
      rw [tt_cl r (by omega), tt_cl q (by omega)]
      refine br_f (nI_pos (by omega)) (br_t (nI_pos' (by omega)) ⟨ri, qi, br_c (fun z => h1 ?_) (fun z => h2 ?_)⟩)
      · rw [e, e', z]
      · rw [e, e']
        exact fun y => z (Option.some.inj y)
    · unfold wX_sameAt_30
      exact br_f (nI_pos (by omega)) (br_f neg (br_t (nI_pos' (by omega)) (h2 (by rw [e, e']; exact fun z => nomatch z))))
  · refine tt_rowK h hE hR hm ht hd (fun q hq hc' hk' e' => ?_) (fun e' => ?_)
    · unfold wX_sameAt_30
      exact br_t (by decide) (br_f neg (br_t (nI_pos' (by omega)) (h2 (by rw [e, e']; exact fun z => nomatch z))))
    · unfold wX_sameAt_30
      exact br_t (by decide) (br_f neg (br_f neg (h1 (e.trans e'.symm))))
theorem tt_xchg_loop {post : Int32 → Prop} (h : tt_RX E R T F L B C V K) (hE : E ≤ 40) (hR : R ≤ 120) (hn : n ≤ E) (hm : m ≤ E) (ht : t < 1000) (hp : post (nI (tt_df (K n t) (K m t) 100))) :
    ∀ k d, 100 < d + k → d ≤ 100 → wX_changed_34 post (nI n) (nI m) (nI t) (nI E) (nI R) ff ft fv ls (tt_aI T) (tt_aI F) (tt_aI L) V (tt_aI B) (tt_aI C) lf lt lv k (nI (tt_df (K n t) (K m t) d)) (nI d) := by
  intro k
  induction k with
  | zero => intro d h1 h2; omega
  | succ k ih =>
    intro d h1 h2
    rw [wX_changed_34]
    dsimp only
    by_cases c : d = 100
    · subst c
      exact br_t (nI_le (b := 100) (Nat.le_refl _) (by decide)) hp
    · refine br_f (nI_ge (b := 100) (by omega) (by decide)) ?_
      have c75 : ∀ bo, d < bo → bo ≤ 100 → (∀ x, d ≤ x → x < bo → K n t x = K n t d ∧ K m t x = K m t d) → wX_changed_75 post (wX_changed_34 post (nI n) (nI m) (nI t) (nI E) (nI R) ff ft fv ls (tt_aI T) (tt_aI F) (tt_aI L) V (tt_aI B) (tt_aI C) lf lt lv k) (nI n) (nI m) (nI t) (nI (tt_df (K n t) (K m t) d)) (nI d) (nI bo) (nI E) (nI R) ff ft fv ls (tt_aI T) (tt_aI F) (tt_aI L) V (tt_aI B) (tt_aI C) lf lt lv := by
        intro bo b1 b2 b3
        have e := tt_df_c (g := K n t) (h := K m t) (d := d) (bo - d) (fun x x1 x2 => b3 x x1 (by omega))
        have eb : d + (bo - d) = bo := by omega
        rw [eb] at e
        have go := ih bo (by omega) b2
        rw [e] at go
        unfold wX_changed_75
        refine tt_sameAt h hE hR hn hm ht (by omega) (fun w => ?_) (fun w => ?_)
        · rw [if_pos w] at go
          exact br_f (by decide) go
        · rw [if_neg w] at go
          refine br_t rfl (nm_r ?_ go)
          rw [pk_sub (by omega), nI_add]
      refine tt_border hE hR h.1 (by omega) ht (by omega) (fun bo x1 x2 x3 => tt_border hE hR h.1 (by omega) ht (by omega) (fun bo' y1 y2 y3 => ?_))
      refine pk_le bo' bo (fun w => c75 bo' y1 y2 (fun x u1 u2 => ⟨tt_NB_c h hn x3 u1 (by omega), tt_NB_c h hm y3 u1 u2⟩)) (fun w => c75 bo x1 x2 (fun x u1 u2 => ⟨tt_NB_c h hn x3 u1 u2, tt_NB_c h hm y3 u1 (by omega)⟩))
theorem tt_xchg {post : Int32 → Prop} (h : tt_RX E R T F L B C V K) (hE : E ≤ 40) (hR : R ≤ 120) (hn : n ≤ E) (hm : m ≤ E) (ht : t < 6) (hp : post (nI (tt_df (K n t) (K m t) 100))) : wpX_changed post (nI E, nI R, ff, ft, fv, ls, tt_aI T, tt_aI F, tt_aI L, V, tt_aI B, tt_aI C, lf, lt, lv) (nI n) (nI m) (nI t) := by
  unfold wpX_changed
  dsimp only
  exact tt_bE_y hE hn (br_t rfl (tt_bE_y hE hm (br_t rfl (tt_bT_y ht (br_t rfl ⟨101, tt_xchg_loop h hE hR hn hm (by omega) hp 101 0 (by omega) (by omega)⟩)))))
end
end
section
/-! since: the least s from which on the answer is that of today -/
def tt_SI (K : Nat → Nat → Nat → Option Int32) (E t d s : Nat) : Prop := s ≤ E ∧ (∀ n, s ≤ n → n ≤ E → K n t d = K E t d) ∧ (s = 0 ∨ K (s - 1) t d ≠ K E t d)
theorem tt_SI_u {K : Nat → Nat → Nat → Option Int32} {E t d s s' : Nat} (h : tt_SI K E t d s) (h' : tt_SI K E t d s') : s = s' := by
  obtain ⟨a1, a2, a3⟩ := h
  obtain ⟨b1, b2, b3⟩ := h'
  by_cases c : s < s'
  · rcases b3 with z | z
    · omega
    · exact absurd (a2 (s' - 1) (by omega) (by omega)) z
  · by_cases c' : s' < s
    · rcases a3 with z | z
      · omega
      · exact absurd (b2 (s - 1) (by omega) (by omega)) z
    · omega
section
variable {E t d : Nat} {qn : Int32} {th fr tl : Nat → Nat} {sy vl qf qt qv : Nat → Int32}
theorem tt_ysince_loop {post : Int32 → Prop} (hE : E ≤ 40) (h0 : tt_Y0 E th fr tl) (ht : t < 1000) (hd : d < 1000) (hp : ∀ s, tt_SI (tt_K th fr tl sy vl) E t d s → post (nI s)) :
    ∀ n, n ≤ E → (∀ x, n ≤ x → x ≤ E → tt_K th fr tl sy vl x t d = tt_K th fr tl sy vl E t d) → wY_since_26 post (nI t) (nI d) (nI E) qn (tt_aI th) (tt_aI fr) (tt_aI tl) sy vl qf qt qv (n + 1) (nI n) := by
  intro n
  induction n with
  | zero =>
    intro hn hx
    rw [wY_since_26]
    exact br_t (nI_le (b := 0) (Nat.le_refl _) (by decide)) (hp 0 ⟨hn, hx, Or.inl rfl⟩)
  | succ n ih =>
    intro hn hx
    rw [wY_since_26]
    dsimp only
    rw [nI_pred]
    refine br_f (nI_nle (by omega) (by omega)) (tt_same hE h0 (by omega) (Nat.le_refl _) ht hd (fun w => br_f (by decide) (nm_r (pk_m1 n) (ih (by omega) (fun x x1 x2 => ?_)))) (fun w => br_t rfl (hp (n + 1) ⟨hn, hx, Or.inr w⟩)))
    by_cases e : x = n
    · rw [e]; exact w
    · exact hx x (by omega) x2
theorem tt_ysince {post : Int32 → Prop} (hE : E ≤ 40) (h0 : tt_Y0 E th fr tl) (ht : t < 6) (hd : d < 100) (hp : ∀ s, tt_SI (tt_K th fr tl sy vl) E t d s → post (nI s)) : wpY_since post (nI E, qn, tt_aI th, tt_aI fr, tt_aI tl, sy, vl, qf, qt, qv) (nI t) (nI d) := by
  unfold wpY_since
  dsimp only
  refine tt_yT_y ht (br_f (by decide) (tt_yd_y hd (br_f (by decide) ⟨E + 1, tt_ysince_loop hE h0 (by omega) (by omega) hp E (Nat.le_refl _) (fun x x1 x2 => ?_)⟩)))
  have e : x = E := by omega
  rw [e]
end
section
variable {E R t d : Nat} {ff ft fv ls : Int32} {T F L B C : Nat → Nat} {V lf lt lv : Nat → Int32} {K : Nat → Nat → Nat → Option Int32}
theorem tt_LC_SI (h : tt_RX E R T F L B C V K) {la : Nat} (hla : la ≤ E) (hl : tt_LC T F L C E t d la R) (e : K E t d = none) : tt_SI K E t d la := by
  obtain ⟨l1, l2⟩ := hl
  refine ⟨hla, fun n n1 n2 => ?_, ?_⟩
  · rw [e]
    cases e' : K n t d with
    | none => rfl
    | some v =>
      exfalso
      obtain ⟨q, hq, hc, k1, k2⟩ := h.2.2.1 n t d v n2 e'
      have z := h.1 q hq
      by_cases c : C q = 0
      · have y := h.2.1 q E t d hq (Nat.le_refl _) hc ⟨by omega, Or.inl c⟩
        rw [e] at y
        exact nomatch y
      · have y := l1 q hq hc
        omega
  · rcases l2 with z | ⟨q, hq, hc, q1, q2⟩
    · exact Or.inl z
    · by_cases c : la = 0
      · exact Or.inl c
      · right
        have z := h.1 q hq
        rw [e, h.2.1 q (la - 1) t d hq (by omega) hc ⟨by omega, Or.inr (by omega)⟩]
        exact fun y => nomatch y
/-- the row that was looked up as of n: -1 if nothing is known then -/
def tt_at (K : Nat → Nat → Nat → Option Int32) (R : Nat) (T F L B C : Nat → Nat) (V : Nat → Int32) (n t d : Nat) : Option Nat → Prop
  | none => K n t d = none
  | some q => q < R ∧ tt_cv T F L q t d ∧ tt_kn B C q n ∧ K n t d = some (V q)
theorem tt_rowO {post : Int32 → Prop} {n : Nat} (h : tt_RX E R T F L B C V K) (hE : E ≤ 40) (hR : R ≤ 120) (hn : n ≤ E) (ht : t < 1000) (hd : d < 1000) (hp : ∀ o, tt_at K R T F L B C V n t d o → post (tt_bI o)) : wpX_rowAt post (nI E, nI R, ff, ft, fv, ls, tt_aI T, tt_aI F, tt_aI L, V, tt_aI B, tt_aI C, lf, lt, lv) (nI n) (nI t) (nI d) :=
  tt_rowK h hE hR hn ht hd (fun r hr hc hk e => hp (some r) ⟨hr, hc, hk, e⟩) (fun e => hp none e)
theorem tt_xsince_loop {post : Int32 → Prop} (h : tt_RX E R T F L B C V K) (hK : K 0 t d = none) (hE : E ≤ 40) (hR : R ≤ 120) (ht : t < 1000) (hd : d < 1000) {v : Int32} (hp : ∀ s, tt_SI K E t d s → post (nI s)) :
    ∀ k i f o, i + k = 41 → 1 ≤ i → 1 ≤ f → f + i ≤ E + 1 → (∀ x, f ≤ x → x ≤ E → K x t d = some v) → tt_at K R T F L B C V (f - 1) t d o → wX_since_67 post (nI t) (nI d) v (nI E) (nI R) ff ft fv ls (tt_aI T) (tt_aI F) (tt_aI L) V (tt_aI B) (tt_aI C) lf lt lv k (tt_bI o) (nI f) (nI i) := by
  intro k
  induction k with
  | zero => intro i f o hi h0 h1 h2; omega
  | succ k ih =>
    intro i f o hi h0 h1 h2 hc ho
    have hf : f ≤ E := by omega
    have eE : K E t d = some v := hc E hf (Nat.le_refl _)
    have fin : K (f - 1) t d ≠ some v → post (nI f) := fun w => hp f ⟨hf, fun n n1 n2 => (hc n n1 n2).trans eE.symm, Or.inr (by rw [eE]; exact w)⟩
    rw [wX_since_67]
    dsimp only
    by_cases c : i = 40
    · refine br_t (nI_le (a := 40) (by omega) (by omega)) (fin ?_)
      have e : f - 1 = 0 := by omega
      rw [e, hK]
      exact fun y => nomatch y
    · refine br_f (nI_ge (b := 40) (by omega) (by decide)) ?_
      cases o with
      | none =>
        have m1 : tt_bI none < 0 := by show (-1 : Int32) < 0; decide
        have e : K (f - 1) t d = none := ho
        exact br_t m1 (fin (by rw [e]; exact fun y => nomatch y))
      | some q =>
        obtain ⟨q1, q2, q3, q4⟩ := ho
        have z := h.1 q q1
        have p1 : ¬ tt_bI (some q) < 0 := nI_pos (by omega)
        have e1 : (tt_bI (some q)).toNatClampNeg = q := nI_clamp (by omega)
        have i1 : vp_in (tt_bI (some q)) 124 := vp_in_nI (by omega) (by decide)
        have e2 : nI (B q) - 1 = nI (B q - 1) := pk_sub (b := 1) (by omega)
        rw [e1]
        refine br_f p1 ⟨i1, br_c (fun w => ⟨i1, nm_r (e' := nI (B q)) rfl ?_⟩) (fun w => fin (by rw [q4]; exact fun y => w (Option.some.inj y)))⟩
        rw [e2]
        obtain ⟨k1, k2⟩ := q3
        refine tt_rowO h hE hR (by omega) ht hd (fun o' ho' => nm_r (nI_1 i) (ih (i + 1) (B q) o' (by omega) (by omega) (by omega) (by omega) (fun x x1 x2 => ?_) ho'))
        by_cases cx : f ≤ x
        · exact hc x cx x2
        · rw [← w]
          exact h.2.1 q x t d q1 x2 q2 ⟨x1, by omega⟩
theorem tt_xsince {post : Int32 → Prop} (h : tt_RX E R T F L B C V K) (hK : K 0 t d = none) (hE : E ≤ 40) (hR : R ≤ 120) (ht : t < 6) (hd : d < 100) (hp : ∀ s, tt_SI K E t d s → post (nI s)) : wpX_since post (nI E, nI R, ff, ft, fv, ls, tt_aI T, tt_aI F, tt_aI L, V, tt_aI B, tt_aI C, lf, lt, lv) (nI t) (nI d) := by
  unfold wpX_since
  dsimp only
  refine tt_bT_y ht (br_t rfl (tt_bd_y hd (br_t rfl ?_)))
  refine tt_rowK h hE hR (Nat.le_refl _) (by omega) (by omega) (fun r hr hc hk e => ?_) (fun e => ?_)
  · have ri : vp_in (nI r) 124 := vp_in_nI (by omega) (by decide)
    have z := h.1 r hr
    obtain ⟨k1, k2⟩ := hk
    have e2 : nI (B r) - 1 = nI (B r - 1) := pk_sub (b := 1) (by omega)
    rw [tt_cl r (by omega)]
    refine br_t (nI_pos' (by omega)) ⟨ri, nm_e ⟨ri, nm_e ⟨41, ?_⟩⟩⟩
    rw [wX_since_67]
    dsimp only
    rw [tt_cl r (by omega)]
    refine br_f (by decide) (br_f (nI_pos (by omega)) ⟨ri, br_t rfl ⟨ri, nm_r (e' := nI (B r)) rfl ?_⟩⟩)
    rw [e2]
    refine tt_rowO h hE hR (by omega) (by omega) (by omega) (fun o' ho' => nm_r (nI_1 0) (tt_xsince_loop h hK hE hR (by omega) (by omega) hp 40 1 (B r) o' (by omega) (by omega) (by omega) (by omega) (fun x x1 x2 => ?_) ho'))
    exact h.2.1 r x t d hr x2 hc ⟨x1, by omega⟩
  · refine br_f (by decide) (tt_lastC hE hR h.1 (by omega) (by omega) (by omega) (fun la l1 l2 => hp la (tt_LC_SI h l1 l2 e)))
end
end
section
/-! the relation, and the calls that write -/
def tt_I (E R : Nat) (T F L B C : Nat → Nat) (V : Nat → Int32) (th fr tl : Nat → Nat) (sy vl : Nat → Int32) : Prop :=
  E ≤ 40 ∧ R ≤ 3 * E ∧ tt_Y0 E th fr tl ∧ tt_RX E R T F L B C V (tt_K th fr tl sy vl)
/-- the relation at the head of a turn: the rows picture what the entries say -/
def i_Rel (k : Nat) (u : SX) (v : SY) : Prop :=
  ∃ (E R : Nat) (ff ft fv ls : Int32) (T F L : Nat → Nat) (V : Nat → Int32) (B C : Nat → Nat) (lf lt lv : Nat → Int32) (qn : Int32) (th fr tl : Nat → Nat) (sy vl qf qt qv : Nat → Int32), u = (nI E, nI R, ff, ft, fv, ls, tt_aI T, tt_aI F, tt_aI L, V, tt_aI B, tt_aI C, lf, lt, lv) ∧ v = (nI E, qn, tt_aI th, tt_aI fr, tt_aI tl, sy, vl, qf, qt, qv) ∧ tt_I E R T F L B C V th fr tl sy vl
theorem tt_el {k : Nat} {u : SX} {v : SY} {P : SX → SY → Prop} (I : i_Rel k u v)
    (h : ∀ (E R : Nat) (ff ft fv ls : Int32) (T F L : Nat → Nat) (V : Nat → Int32) (B C : Nat → Nat) (lf lt lv : Nat → Int32) (qn : Int32) (th fr tl : Nat → Nat) (sy vl qf qt qv : Nat → Int32), E ≤ 40 → R ≤ 3 * E → tt_Y0 E th fr tl → tt_RX E R T F L B C V (tt_K th fr tl sy vl) → P (nI E, nI R, ff, ft, fv, ls, tt_aI T, tt_aI F, tt_aI L, V, tt_aI B, tt_aI C, lf, lt, lv) (nI E, qn, tt_aI th, tt_aI fr, tt_aI tl, sy, vl, qf, qt, qv)) : P u v := by
  obtain ⟨E, R, ff, ft, fv, ls, T, F, L, V, B, C, lf, lt, lv, qn, th, fr, tl, sy, vl, qf, qt, qv, rfl, rfl, h1, h2, h3, h4⟩ := I
  exact h E R ff ft fv ls T F L V B C lf lt lv qn th fr tl sy vl qf qt qv h1 h2 h3 h4
section
variable {k E R : Nat} {ff ft fv ls : Int32} {T F L B C : Nat → Nat} {V lf lt lv : Nat → Int32} {qn : Int32} {th fr tl : Nat → Nat} {sy vl qf qt qv : Nat → Int32}
theorem tt_in (h1 : E ≤ 40) (h2 : R ≤ 3 * E) (h3 : tt_Y0 E th fr tl) (h4 : tt_RX E R T F L B C V (tt_K th fr tl sy vl)) : i_Rel k (nI E, nI R, ff, ft, fv, ls, tt_aI T, tt_aI F, tt_aI L, V, tt_aI B, tt_aI C, lf, lt, lv) (nI E, qn, tt_aI th, tt_aI fr, tt_aI tl, sy, vl, qf, qt, qv) :=
  ⟨E, R, ff, ft, fv, ls, T, F, L, V, B, C, lf, lt, lv, qn, th, fr, tl, sy, vl, qf, qt, qv, rfl, rfl, h1, h2, h3, h4⟩
theorem tt_RX_0 {K : Nat → Nat → Nat → Option Int32} (hK : ∀ t d, K 0 t d = none) : tt_RX 0 0 T F L B C V K := by
  refine ⟨fun r hr => by omega, fun r n t d hr => by omega, fun n t d v hn hv => ?_, fun r q n t d hr => by omega⟩
  have e : n = 0 := by omega
  rw [e, hK] at hv
  exact nomatch hv
end
theorem i_up {k : Nat} {u : SX} {v : SY} (h : i_Rel k u v) : i_Rel (k + 4) u v := h
theorem i_vc0 : wpX_init (fun u => wpY_init (fun v => i_Rel 0 u v)) := by
  unfold wpX_init wpY_init
  have z : i_Rel 0 (nI 0, nI 0, 0, 0, 0, 0, tt_aI (fun _ => 0), tt_aI (fun _ => 0), tt_aI (fun _ => 0), (fun _ => 0), tt_aI (fun _ => 0), tt_aI (fun _ => 0), (fun _ => 0), (fun _ => 0), (fun _ => 0)) (nI 0, 0, tt_aI (fun _ => 0), tt_aI (fun _ => 0), tt_aI (fun _ => 0), (fun _ => 0), (fun _ => 0), (fun _ => 0), (fun _ => 0), (fun _ => 0)) :=
    tt_in (by omega) (by omega) (fun e he => by omega) (tt_RX_0 (fun _ _ => rfl))
  rw [tt_aI_0, nI_0] at z
  exact z
theorem i_vc_clear {k : Nat} {u : SX} {v : SY} (I : i_Rel k u v) (hk : k + 4 ≤ 2048) : wpX_clear (fun u' => wpY_clear (fun v' => i_Rel (k + 4) u' v') v) u := by
  refine tt_el (P := fun u v => wpX_clear (fun u' => wpY_clear (fun v' => i_Rel (k + 4) u' v') v) u) I ?_
  intro E R ff ft fv ls T F L V B C lf lt lv qn th fr tl sy vl qf qt qv hE hR h0 h
  unfold wpX_clear wpY_clear
  dsimp only
  have z : i_Rel (k + 4) (nI 0, nI 0, ff, ft, fv, ls, tt_aI T, tt_aI F, tt_aI L, V, tt_aI B, tt_aI C, lf, lt, lv) (nI 0, qn, tt_aI th, tt_aI fr, tt_aI tl, sy, vl, qf, qt, qv) := tt_in (by omega) (by omega) (fun e he => by omega) (tt_RX_0 (fun _ _ => rfl))
  rw [nI_0] at z
  exact z
theorem tt_days (p : Int32) : ∃ a b : Nat, a < 128 ∧ b < 128 ∧ p &&& 127 = nI a ∧ (p >>> ((7 : Int32) &&& 31)) &&& 127 = nI b := by
  obtain ⟨a, ha, ea⟩ := pk_andE p (m := 127) 7 (by decide)
  obtain ⟨b, hb, eb⟩ := pk_andE (p >>> ((7 : Int32) &&& 31)) (m := 127) 7 (by decide)
  exact ⟨a, b, ha, hb, ea, eb⟩
theorem tt_ag {E t a b : Nat} {s v : Int32} {th fr tl : Nat → Nat} {sy vl : Nat → Int32} : ∀ e, e < E → tt_up th E t e = th e ∧ tt_up fr E a e = fr e ∧ tt_up tl E b e = tl e ∧ upd sy E s e = sy e ∧ upd vl E v e = vl e :=
  fun e he => ⟨tt_up_n (by omega), tt_up_n (by omega), tt_up_n (by omega), pk_un (by omega), pk_un (by omega)⟩
theorem tt_new_2 {E t a b : Nat} {s v : Int32} {th fr tl : Nat → Nat} {sy vl : Nat → Int32} : ∀ t' d, ¬ (t' = t ∧ a ≤ d ∧ d < b) → tt_K (tt_up th E t) (tt_up fr E a) (tt_up tl E b) (upd sy E s) (upd vl E v) (E + 1) t' d = tt_K th fr tl sy vl E t' d := by
  intro t' d w
  rw [tt_K_n ?_]
  · exact tt_K_c E tt_ag E (Nat.le_refl _) t' d
  · rw [tt_up_s, tt_up_s, tt_up_s]
    exact fun u => w ⟨u.1.symm, u.2⟩
theorem tt_new_3 {E t a b : Nat} {s v : Int32} {th fr tl : Nat → Nat} {sy vl : Nat → Int32} : ∀ d, a ≤ d → d < b → tt_K (tt_up th E t) (tt_up fr E a) (tt_up tl E b) (upd sy E s) (upd vl E v) (E + 1) t d = if s = 0 then none else some v := by
  intro d d1 d2
  rw [tt_K_s ?_]
  · rw [pk_us, pk_us]
  · rw [tt_up_s, tt_up_s, tt_up_s]
    exact ⟨rfl, d1, d2⟩
theorem tt_new_0 {E t a b : Nat} {th fr tl : Nat → Nat} (h : tt_Y0 E th fr tl) (ht : t < 6) (hab : a < b) (hb : b ≤ 100) : tt_Y0 (E + 1) (tt_up th E t) (tt_up fr E a) (tt_up tl E b) := by
  intro e he
  by_cases c : e = E
  · rw [c, tt_up_s, tt_up_s, tt_up_s]; exact ⟨ht, hab, hb⟩
  · rw [tt_up_n c, tt_up_n c, tt_up_n c]; exact h e (by omega)
section
variable {E R t a b : Nat} {ff ft fv ls : Int32} {T F L B C : Nat → Nat} {V lf lt lv : Nat → Int32} {p q w : Int32} {post : Int32 → SX → Prop} {K K' : Nat → Nat → Nat → Option Int32}
theorem tt_xsay_t (hn : ¬ ∃ t, t < 6 ∧ p = nI t) (h : post (-1) (nI E, nI R, ff, ft, fv, ls, tt_aI T, tt_aI F, tt_aI L, V, tt_aI B, tt_aI C, lf, lt, lv)) : wpX_say post (nI E, nI R, ff, ft, fv, ls, tt_aI T, tt_aI F, tt_aI L, V, tt_aI B, tt_aI C, lf, lt, lv) p q w := by
  unfold wpX_say
  dsimp only
  exact tt_bT_n hn (br_f (by decide) h)
theorem tt_xsay_d (ht : t < 6) (e1 : q &&& 127 = nI a) (e2 : (q >>> ((7 : Int32) &&& 31)) &&& 127 = nI b) (ha : a < 128) (hb : b < 128) (hn : ¬ (a < b ∧ b ≤ 100)) (h : post (-2) (nI E, nI R, ff, ft, fv, ls, tt_aI T, tt_aI F, tt_aI L, V, tt_aI B, tt_aI C, lf, lt, lv)) : wpX_say post (nI E, nI R, ff, ft, fv, ls, tt_aI T, tt_aI F, tt_aI L, V, tt_aI B, tt_aI C, lf, lt, lv) (nI t) q w := by
  unfold wpX_say
  dsimp only
  exact tt_bT_y ht (br_t rfl (tt_bD_n e1 e2 ha hb hn (br_f (by decide) h)))
theorem tt_xsay_f (ht : t < 6) (e1 : q &&& 127 = nI a) (e2 : (q >>> ((7 : Int32) &&& 31)) &&& 127 = nI b) (hab : a < b) (hb : b ≤ 100) (hE : E = 40) (h : post (-3) (nI E, nI R, ff, ft, fv, ls, tt_aI T, tt_aI F, tt_aI L, V, tt_aI B, tt_aI C, lf, lt, lv)) : wpX_say post (nI E, nI R, ff, ft, fv, ls, tt_aI T, tt_aI F, tt_aI L, V, tt_aI B, tt_aI C, lf, lt, lv) (nI t) q w := by
  unfold wpX_say
  dsimp only
  exact tt_bT_y ht (br_t rfl (tt_bD_y e1 e2 hab hb (br_t rfl (br_f (nI_nlt (b := 40) (by omega) (by omega)) h))))
theorem tt_xsay_y (hx : tt_RX E R T F L B C V K) (hE : E < 40) (hR : R ≤ 117) (ht : t < 6) (e1 : q &&& 127 = nI a) (e2 : (q >>> ((7 : Int32) &&& 31)) &&& 127 = nI b) (hab : a < b) (hb : b ≤ 100)
    (k1 : ∀ n t' d, n ≤ E → K' n t' d = K n t' d) (k2 : ∀ t' d, ¬ (t' = t ∧ a ≤ d ∧ d < b) → K' (E + 1) t' d = K E t' d) (k3 : ∀ d, a ≤ d → d < b → K' (E + 1) t d = some w)
    (hp : ∀ (R' : Nat) (T F L B C : Nat → Nat) (V : Nat → Int32), R' ≤ R + 3 → tt_RX (E + 1) R' T F L B C V K' → post (nI (E + 1)) (nI (E + 1), nI R', ff, ft, fv, ls, tt_aI T, tt_aI F, tt_aI L, V, tt_aI B, tt_aI C, lf, lt, lv)) : wpX_say post (nI E, nI R, ff, ft, fv, ls, tt_aI T, tt_aI F, tt_aI L, V, tt_aI B, tt_aI C, lf, lt, lv) (nI t) q w := by
  unfold wpX_say
  dsimp only
  refine tt_bT_y ht (br_t rfl (tt_bD_y e1 e2 hab hb (br_t rfl (br_t (nI_lt (b := 40) hE (by decide)) ?_))))
  rw [e1, e2]
  exact tt_enter hx hE hR ht hab hb k1 k2 k3 hp
theorem tt_xuns_t (hn : ¬ ∃ t, t < 6 ∧ p = nI t) (h : post (-1) (nI E, nI R, ff, ft, fv, ls, tt_aI T, tt_aI F, tt_aI L, V, tt_aI B, tt_aI C, lf, lt, lv)) : wpX_unsay post (nI E, nI R, ff, ft, fv, ls, tt_aI T, tt_aI F, tt_aI L, V, tt_aI B, tt_aI C, lf, lt, lv) p q := by
  unfold wpX_unsay
  dsimp only
  exact tt_bT_n hn (br_f (by decide) h)
theorem tt_xuns_d (ht : t < 6) (e1 : q &&& 127 = nI a) (e2 : (q >>> ((7 : Int32) &&& 31)) &&& 127 = nI b) (ha : a < 128) (hb : b < 128) (hn : ¬ (a < b ∧ b ≤ 100)) (h : post (-2) (nI E, nI R, ff, ft, fv, ls, tt_aI T, tt_aI F, tt_aI L, V, tt_aI B, tt_aI C, lf, lt, lv)) : wpX_unsay post (nI E, nI R, ff, ft, fv, ls, tt_aI T, tt_aI F, tt_aI L, V, tt_aI B, tt_aI C, lf, lt, lv) (nI t) q := by
  unfold wpX_unsay
  dsimp only
  exact tt_bT_y ht (br_t rfl (tt_bD_n e1 e2 ha hb hn (br_f (by decide) h)))
theorem tt_xuns_f (ht : t < 6) (e1 : q &&& 127 = nI a) (e2 : (q >>> ((7 : Int32) &&& 31)) &&& 127 = nI b) (hab : a < b) (hb : b ≤ 100) (hE : E = 40) (h : post (-3) (nI E, nI R, ff, ft, fv, ls, tt_aI T, tt_aI F, tt_aI L, V, tt_aI B, tt_aI C, lf, lt, lv)) : wpX_unsay post (nI E, nI R, ff, ft, fv, ls, tt_aI T, tt_aI F, tt_aI L, V, tt_aI B, tt_aI C, lf, lt, lv) (nI t) q := by
  unfold wpX_unsay
  dsimp only
  exact tt_bT_y ht (br_t rfl (tt_bD_y e1 e2 hab hb (br_t rfl (br_f (nI_nlt (b := 40) (by omega) (by omega)) h))))
theorem tt_xuns_y (hx : tt_RX E R T F L B C V K) (hE : E < 40) (hR : R ≤ 117) (ht : t < 6) (e1 : q &&& 127 = nI a) (e2 : (q >>> ((7 : Int32) &&& 31)) &&& 127 = nI b) (hab : a < b) (hb : b ≤ 100)
    (k1 : ∀ n t' d, n ≤ E → K' n t' d = K n t' d) (k2 : ∀ t' d, ¬ (t' = t ∧ a ≤ d ∧ d < b) → K' (E + 1) t' d = K E t' d) (k3 : ∀ d, a ≤ d → d < b → K' (E + 1) t d = none)
    (hp : ∀ (R' : Nat) (T F L B C : Nat → Nat) (V : Nat → Int32), R' ≤ R + 2 → tt_RX (E + 1) R' T F L B C V K' → post (nI (E + 1)) (nI (E + 1), nI R', ff, ft, fv, ls, tt_aI T, tt_aI F, tt_aI L, V, tt_aI B, tt_aI C, lf, lt, lv)) : wpX_unsay post (nI E, nI R, ff, ft, fv, ls, tt_aI T, tt_aI F, tt_aI L, V, tt_aI B, tt_aI C, lf, lt, lv) (nI t) q := by
  unfold wpX_unsay
  dsimp only
  refine tt_bT_y ht (br_t rfl (tt_bD_y e1 e2 hab hb (br_t rfl (br_t (nI_lt (b := 40) hE (by decide)) (nm_r (nI_1 E) ?_)))))
  rw [e1, e2]
  exact tt_cutOut hx hE hR ht hab hb k1 k2 k3 hp
end
section
variable {E t a b : Nat} {p q w : Int32} {post : Int32 → SY → Prop} {qn : Int32} {th fr tl : Nat → Nat} {sy vl qf qt qv : Nat → Int32}
theorem tt_ysay_t (hn : ¬ ∃ t, t < 6 ∧ p = nI t) (h : post (-1) (nI E, qn, tt_aI th, tt_aI fr, tt_aI tl, sy, vl, qf, qt, qv)) : wpY_say post (nI E, qn, tt_aI th, tt_aI fr, tt_aI tl, sy, vl, qf, qt, qv) p q w := by
  unfold wpY_say
  dsimp only
  exact tt_rf_t hn (br_f (by decide) h)
theorem tt_ysay_d (ht : t < 6) (e1 : q &&& 127 = nI a) (e2 : (q >>> ((7 : Int32) &&& 31)) &&& 127 = nI b) (ha : a < 128) (hb : b < 128) (hn : ¬ (a < b ∧ b ≤ 100)) (h : post (-2) (nI E, qn, tt_aI th, tt_aI fr, tt_aI tl, sy, vl, qf, qt, qv)) : wpY_say post (nI E, qn, tt_aI th, tt_aI fr, tt_aI tl, sy, vl, qf, qt, qv) (nI t) q w := by
  unfold wpY_say
  dsimp only
  exact tt_rf_d ht e1 e2 ha hb hn (br_f (by decide) h)
theorem tt_ysay_f (ht : t < 6) (e1 : q &&& 127 = nI a) (e2 : (q >>> ((7 : Int32) &&& 31)) &&& 127 = nI b) (hab : a < b) (hb : b ≤ 100) (hE : E = 40) (h : post (-3) (nI E, qn, tt_aI th, tt_aI fr, tt_aI tl, sy, vl, qf, qt, qv)) : wpY_say post (nI E, qn, tt_aI th, tt_aI fr, tt_aI tl, sy, vl, qf, qt, qv) (nI t) q w := by
  unfold wpY_say
  dsimp only
  exact tt_rf_y ht e1 e2 hab hb (br_t (by decide) (br_t (congrArg nI hE) h))
theorem tt_ysay_y (hE : E < 40) (ht : t < 6) (e1 : q &&& 127 = nI a) (e2 : (q >>> ((7 : Int32) &&& 31)) &&& 127 = nI b) (hab : a < b) (hb : b ≤ 100)
    (h : post (nI (E + 1)) (nI (E + 1), qn, tt_aI (tt_up th E t), tt_aI (tt_up fr E a), tt_aI (tt_up tl E b), upd sy E 1, upd vl E w, qf, qt, qv)) : wpY_say post (nI E, qn, tt_aI th, tt_aI fr, tt_aI tl, sy, vl, qf, qt, qv) (nI t) q w := by
  have ne : ¬ nI E = 40 := fun z => by
    have := (nI_eq (a := E) (b := 40) (by omega) (by omega)).mp z
    omega
  unfold wpY_say
  dsimp only
  refine tt_rf_y ht e1 e2 hab hb (br_t (by decide) (br_f ne ?_))
  rw [e1, e2]
  exact tt_make hE h
theorem tt_yuns_t (hn : ¬ ∃ t, t < 6 ∧ p = nI t) (h : post (-1) (nI E, qn, tt_aI th, tt_aI fr, tt_aI tl, sy, vl, qf, qt, qv)) : wpY_unsay post (nI E, qn, tt_aI th, tt_aI fr, tt_aI tl, sy, vl, qf, qt, qv) p q := by
  unfold wpY_unsay
  dsimp only
  exact tt_rf_t hn (br_f (by decide) h)
theorem tt_yuns_d (ht : t < 6) (e1 : q &&& 127 = nI a) (e2 : (q >>> ((7 : Int32) &&& 31)) &&& 127 = nI b) (ha : a < 128) (hb : b < 128) (hn : ¬ (a < b ∧ b ≤ 100)) (h : post (-2) (nI E, qn, tt_aI th, tt_aI fr, tt_aI tl, sy, vl, qf, qt, qv)) : wpY_unsay post (nI E, qn, tt_aI th, tt_aI fr, tt_aI tl, sy, vl, qf, qt, qv) (nI t) q := by
  unfold wpY_unsay
  dsimp only
  exact tt_rf_d ht e1 e2 ha hb hn (br_f (by decide) h)
theorem tt_yuns_f (ht : t < 6) (e1 : q &&& 127 = nI a) (e2 : (q >>> ((7 : Int32) &&& 31)) &&& 127 = nI b) (hab : a < b) (hb : b ≤ 100) (hE : E = 40) (h : post (-3) (nI E, qn, tt_aI th, tt_aI fr, tt_aI tl, sy, vl, qf, qt, qv)) : wpY_unsay post (nI E, qn, tt_aI th, tt_aI fr, tt_aI tl, sy, vl, qf, qt, qv) (nI t) q := by
  unfold wpY_unsay
  dsimp only
  exact tt_rf_y ht e1 e2 hab hb (br_t (by decide) (br_t (congrArg nI hE) h))
theorem tt_yuns_y (hE : E < 40) (ht : t < 6) (e1 : q &&& 127 = nI a) (e2 : (q >>> ((7 : Int32) &&& 31)) &&& 127 = nI b) (hab : a < b) (hb : b ≤ 100)
    (h : post (nI (E + 1)) (nI (E + 1), qn, tt_aI (tt_up th E t), tt_aI (tt_up fr E a), tt_aI (tt_up tl E b), upd sy E 0, upd vl E 0, qf, qt, qv)) : wpY_unsay post (nI E, qn, tt_aI th, tt_aI fr, tt_aI tl, sy, vl, qf, qt, qv) (nI t) q := by
  have ne : ¬ nI E = 40 := fun z => by
    have := (nI_eq (a := E) (b := 40) (by omega) (by omega)).mp z
    omega
  unfold wpY_unsay
  dsimp only
  refine tt_rf_y ht e1 e2 hab hb (br_t (by decide) (br_f ne ?_))
  rw [e1, e2]
  exact tt_make hE h
end
theorem i_vc_say {k : Nat} {u : SX} {v : SY} (I : i_Rel k u v) (hk : k + 4 ≤ 2048) (v1 : Int32) (v2 : Int32) (v3 : Int32) : wpX_say (fun r u' => wpY_say (fun r' v' => r' = r ∧ i_Rel (k + 4) u' v') v v1 v2 v3) u v1 v2 v3 := by
  refine tt_el (P := fun u v => wpX_say (fun r u' => wpY_say (fun r' v' => r' = r ∧ i_Rel (k + 4) u' v') v v1 v2 v3) u v1 v2 v3) I ?_
  intro E R ff ft fv ls T F L V B C lf lt lv qn th fr tl sy vl qf qt qv hE hR h0 h
  by_cases hT : ∃ t, t < 6 ∧ v1 = nI t
  · obtain ⟨t, ht, rfl⟩ := hT
    obtain ⟨a, b, ha, hb, ea, eb⟩ := tt_days v2
    by_cases hD : a < b ∧ b ≤ 100
    · obtain ⟨hab, hb'⟩ := hD
      by_cases hF : E = 40
      · exact tt_xsay_f ht ea eb hab hb' hF (tt_ysay_f ht ea eb hab hb' hF ⟨rfl, tt_in hE hR h0 h⟩)
      · refine tt_xsay_y (K' := tt_K (tt_up th E t) (tt_up fr E a) (tt_up tl E b) (upd sy E 1) (upd vl E v3)) h (by omega) (by omega) ht ea eb hab hb' (fun n t' d hn => tt_K_c E tt_ag n hn t' d) tt_new_2 (fun d d1 d2 => ?_) ?_
        · rw [tt_new_3 d d1 d2]
          exact if_neg (by decide)
        · intro R' T F L B C V hR' h'
          exact tt_ysay_y (by omega) ht ea eb hab hb' ⟨rfl, tt_in (by omega) (by omega) (tt_new_0 h0 ht hab hb') h'⟩
    · exact tt_xsay_d ht ea eb ha hb hD (tt_ysay_d ht ea eb ha hb hD ⟨rfl, tt_in hE hR h0 h⟩)
  · exact tt_xsay_t hT (tt_ysay_t hT ⟨rfl, tt_in hE hR h0 h⟩)
theorem i_vc_unsay {k : Nat} {u : SX} {v : SY} (I : i_Rel k u v) (hk : k + 4 ≤ 2048) (v1 : Int32) (v2 : Int32) : wpX_unsay (fun r u' => wpY_unsay (fun r' v' => r' = r ∧ i_Rel (k + 4) u' v') v v1 v2) u v1 v2 := by
  refine tt_el (P := fun u v => wpX_unsay (fun r u' => wpY_unsay (fun r' v' => r' = r ∧ i_Rel (k + 4) u' v') v v1 v2) u v1 v2) I ?_
  intro E R ff ft fv ls T F L V B C lf lt lv qn th fr tl sy vl qf qt qv hE hR h0 h
  by_cases hT : ∃ t, t < 6 ∧ v1 = nI t
  · obtain ⟨t, ht, rfl⟩ := hT
    obtain ⟨a, b, ha, hb, ea, eb⟩ := tt_days v2
    by_cases hD : a < b ∧ b ≤ 100
    · obtain ⟨hab, hb'⟩ := hD
      by_cases hF : E = 40
      · exact tt_xuns_f ht ea eb hab hb' hF (tt_yuns_f ht ea eb hab hb' hF ⟨rfl, tt_in hE hR h0 h⟩)
      · refine tt_xuns_y (K' := tt_K (tt_up th E t) (tt_up fr E a) (tt_up tl E b) (upd sy E 0) (upd vl E 0)) h (by omega) (by omega) ht ea eb hab hb' (fun n t' d hn => tt_K_c E tt_ag n hn t' d) tt_new_2 (fun d d1 d2 => ?_) ?_
        · rw [tt_new_3 d d1 d2]
          exact if_pos rfl
        · intro R' T F L B C V hR' h'
          exact tt_yuns_y (by omega) ht ea eb hab hb' ⟨rfl, tt_in (by omega) (by omega) (tt_new_0 h0 ht hab hb') h'⟩
    · exact tt_xuns_d ht ea eb ha hb hD (tt_yuns_d ht ea eb ha hb hD ⟨rfl, tt_in hE hR h0 h⟩)
  · exact tt_xuns_t hT (tt_yuns_t hT ⟨rfl, tt_in hE hR h0 h⟩)
end
section
/-! raise and copy -/
section
variable {E R t m a b : Nat} {ff ft fv ls : Int32} {T F L B C : Nat → Nat} {V lf lt lv : Nat → Int32} {p q w : Int32} {post : Int32 → SX → Prop} {th fr tl th' fr' tl' : Nat → Nat} {sy vl sy' vl' : Nat → Int32} {pf pt : Nat → Nat} {pv : Nat → Int32}
theorem tt_xrai_t (hn : ¬ ∃ t, t < 6 ∧ p = nI t) (h : post (-1) (nI E, nI R, ff, ft, fv, ls, tt_aI T, tt_aI F, tt_aI L, V, tt_aI B, tt_aI C, lf, lt, lv)) : wpX_raise post (nI E, nI R, ff, ft, fv, ls, tt_aI T, tt_aI F, tt_aI L, V, tt_aI B, tt_aI C, lf, lt, lv) p q w := by
  unfold wpX_raise
  dsimp only
  exact tt_bT_n hn (br_f (by decide) h)
theorem tt_xrai_d (ht : t < 6) (e1 : q &&& 127 = nI a) (e2 : (q >>> ((7 : Int32) &&& 31)) &&& 127 = nI b) (ha : a < 128) (hb : b < 128) (hn : ¬ (a < b ∧ b ≤ 100)) (h : post (-2) (nI E, nI R, ff, ft, fv, ls, tt_aI T, tt_aI F, tt_aI L, V, tt_aI B, tt_aI C, lf, lt, lv)) : wpX_raise post (nI E, nI R, ff, ft, fv, ls, tt_aI T, tt_aI F, tt_aI L, V, tt_aI B, tt_aI C, lf, lt, lv) (nI t) q w := by
  unfold wpX_raise
  dsimp only
  exact tt_bT_y ht (br_t rfl (tt_bD_n e1 e2 ha hb hn (br_f (by decide) h)))
theorem tt_xrai_f (hx : tt_RX E R T F L B C V (tt_K th fr tl sy vl)) (hE : E ≤ 40) (hR : R ≤ 3 * E) (ht : t < 6) (e1 : q &&& 127 = nI a) (e2 : (q >>> ((7 : Int32) &&& 31)) &&& 127 = nI b) (hab : a < b) (hb : b ≤ 100) (hP : tt_PC (tt_K th fr tl sy vl E t) 100 m pf pt pv) (hM : 40 < E + tt_cnt pf pt a b m)
    (hp : ∀ (ff ft fv ls : Int32) (lf lt lv : Nat → Int32), post (-3) (nI E, nI R, ff, ft, fv, ls, tt_aI T, tt_aI F, tt_aI L, V, tt_aI B, tt_aI C, lf, lt, lv)) : wpX_raise post (nI E, nI R, ff, ft, fv, ls, tt_aI T, tt_aI F, tt_aI L, V, tt_aI B, tt_aI C, lf, lt, lv) (nI t) q w := by
  have hm := tt_PC_m hP
  have hc := @tt_cnt_le pf pt a b m
  unfold wpX_raise
  dsimp only
  refine tt_bT_y ht (br_t rfl (tt_bD_y e1 e2 hab hb (br_t rfl ?_)))
  rw [e1, e2]
  refine tt_listPieces hx hE (by omega) (by omega) hP (fun ff ft fv lf lt lv hl => ?_)
  dsimp only
  refine tt_clip hab hb hm hP.1 hl (fun lf lt lv hC => ?_)
  dsimp only
  exact tt_entL_n hM hE (by omega) (hp _ _ _ _ _ _ _)
theorem tt_xrai_y (hx : tt_RX E R T F L B C V (tt_K th fr tl sy vl)) (hE : E ≤ 40) (hR : R ≤ 3 * E) (ht : t < 6) (e1 : q &&& 127 = nI a) (e2 : (q >>> ((7 : Int32) &&& 31)) &&& 127 = nI b) (hab : a < b) (hb : b ≤ 100) (hP : tt_PC (tt_K th fr tl sy vl E t) 100 m pf pt pv) (hM : E + tt_cnt pf pt a b m ≤ 40)
    (g1 : ∀ e, e < E → th' e = th e ∧ fr' e = fr e ∧ tl' e = tl e ∧ sy' e = sy e ∧ vl' e = vl e) (g2 : tt_SR E t a b m w pf pt pv 0 th' fr' tl' sy' vl')
    (hp : ∀ (R : Nat) (T F L B C : Nat → Nat) (V : Nat → Int32) (ff ft fv ls : Int32) (lf lt lv : Nat → Int32), R ≤ 3 * (E + tt_cnt pf pt a b m) → tt_RX (E + tt_cnt pf pt a b m) R T F L B C V (tt_K th' fr' tl' sy' vl') → post (nI (tt_cnt pf pt a b m)) (nI (E + tt_cnt pf pt a b m), nI R, ff, ft, fv, ls, tt_aI T, tt_aI F, tt_aI L, V, tt_aI B, tt_aI C, lf, lt, lv)) : wpX_raise post (nI E, nI R, ff, ft, fv, ls, tt_aI T, tt_aI F, tt_aI L, V, tt_aI B, tt_aI C, lf, lt, lv) (nI t) q w := by
  have hm := tt_PC_m hP
  unfold wpX_raise
  dsimp only
  refine tt_bT_y ht (br_t rfl (tt_bD_y e1 e2 hab hb (br_t rfl ?_)))
  rw [e1, e2]
  refine tt_listPieces hx hE (by omega) (by omega) hP (fun ff ft fv lf lt lv hl => ?_)
  dsimp only
  refine tt_clip hab hb hm hP.1 hl (fun lf lt lv hC => ?_)
  dsimp only
  refine tt_entL_y (th := th') (fr := fr') (tl := tl') (sy := sy') (vl := vl') hM ht ?_ hR (tt_RXc hx (fun n t d hn => tt_K_c E g1 n hn t d)) (fun R T F L B C V hR h => ?_)
  · intro k hk
    obtain ⟨j, hj, hh, ej⟩ := tt_cnt_ex m k hk
    obtain ⟨s1, s2, s3, s4, s5⟩ := g2 j (by omega) hj hh
    obtain ⟨c1, c2, c3⟩ := hC.2 j hj hh
    rw [ej] at s1 s2 s3 s4 s5 c1 c2 c3
    have z := (tt_hit (x := pf j) (y := pt j) hab (hP.1 j hj).1).mpr hh
    have zb : tt_mn (pt j) b ≤ b := by
      unfold tt_mn
      by_cases c : b ≤ pt j
      · rw [if_pos c]; exact Nat.le_refl _
      · rw [if_neg c]; omega
    refine ⟨s1, ?_, ?_, ?_, s4, by omega, by omega⟩
    · rw [c1, s2]
    · rw [c2, s3]
    · rw [c3, s5]
  · exact hp R T F L B C V _ _ _ _ _ _ _ hR h
theorem tt_xcop_t (hn : ¬ ∃ t, t < 6 ∧ p = nI t) (h : post (-1) (nI E, nI R, ff, ft, fv, ls, tt_aI T, tt_aI F, tt_aI L, V, tt_aI B, tt_aI C, lf, lt, lv)) : wpX_copy post (nI E, nI R, ff, ft, fv, ls, tt_aI T, tt_aI F, tt_aI L, V, tt_aI B, tt_aI C, lf, lt, lv) p q := by
  unfold wpX_copy
  dsimp only
  exact tt_bT_n hn (br_f (by decide) h)
theorem tt_xcop_s (ht : t < 6) (hn : ¬ ∃ t, t < 6 ∧ q = nI t) (h : post (-1) (nI E, nI R, ff, ft, fv, ls, tt_aI T, tt_aI F, tt_aI L, V, tt_aI B, tt_aI C, lf, lt, lv)) : wpX_copy post (nI E, nI R, ff, ft, fv, ls, tt_aI T, tt_aI F, tt_aI L, V, tt_aI B, tt_aI C, lf, lt, lv) (nI t) q := by
  unfold wpX_copy
  dsimp only
  exact tt_bT_y ht (br_t rfl (tt_bT_n hn (br_f (by decide) h)))
theorem tt_xcop_f {s : Nat} (hx : tt_RX E R T F L B C V (tt_K th fr tl sy vl)) (hE : E ≤ 40) (hR : R ≤ 3 * E) (ht : t < 6) (hs : s < 6) (hP : tt_PC (tt_K th fr tl sy vl E t) 100 m pf pt pv) (hM : 40 < E + m)
    (hp : ∀ (ff ft fv ls : Int32) (lf lt lv : Nat → Int32), post (-3) (nI E, nI R, ff, ft, fv, ls, tt_aI T, tt_aI F, tt_aI L, V, tt_aI B, tt_aI C, lf, lt, lv)) : wpX_copy post (nI E, nI R, ff, ft, fv, ls, tt_aI T, tt_aI F, tt_aI L, V, tt_aI B, tt_aI C, lf, lt, lv) (nI t) (nI s) := by
  have hm := tt_PC_m hP
  unfold wpX_copy
  dsimp only
  refine tt_bT_y ht (br_t rfl (tt_bT_y hs (br_t rfl ?_)))
  refine tt_listPieces hx hE (by omega) (by omega) hP (fun ff ft fv lf lt lv hl => ?_)
  dsimp only
  exact tt_entL_n hM hE (by omega) (hp _ _ _ _ _ _ _)
theorem tt_xcop_y {s : Nat} (hx : tt_RX E R T F L B C V (tt_K th fr tl sy vl)) (hE : E ≤ 40) (hR : R ≤ 3 * E) (ht : t < 6) (hs : s < 6) (hP : tt_PC (tt_K th fr tl sy vl E t) 100 m pf pt pv) (hM : E + m ≤ 40)
    (g1 : ∀ e, e < E → th' e = th e ∧ fr' e = fr e ∧ tl' e = tl e ∧ sy' e = sy e ∧ vl' e = vl e) (g2 : tt_SC E s m pf pt pv 0 th' fr' tl' sy' vl')
    (hp : ∀ (R : Nat) (T F L B C : Nat → Nat) (V : Nat → Int32) (ff ft fv ls : Int32) (lf lt lv : Nat → Int32), R ≤ 3 * (E + m) → tt_RX (E + m) R T F L B C V (tt_K th' fr' tl' sy' vl') → post (nI m) (nI (E + m), nI R, ff, ft, fv, ls, tt_aI T, tt_aI F, tt_aI L, V, tt_aI B, tt_aI C, lf, lt, lv)) : wpX_copy post (nI E, nI R, ff, ft, fv, ls, tt_aI T, tt_aI F, tt_aI L, V, tt_aI B, tt_aI C, lf, lt, lv) (nI t) (nI s) := by
  unfold wpX_copy
  dsimp only
  refine tt_bT_y ht (br_t rfl (tt_bT_y hs (br_t rfl ?_)))
  refine tt_listPieces hx hE (by omega) (by omega) hP (fun ff ft fv lf lt lv hl => ?_)
  dsimp only
  refine tt_entL_y (th := th') (fr := fr') (tl := tl') (sy := sy') (vl := vl') hM hs ?_ hR (tt_RXc hx (fun n t d hn => tt_K_c E g1 n hn t d)) (fun R T F L B C V hR h => ?_)
  · intro k hk
    obtain ⟨s1, s2, s3, s4, s5⟩ := g2 k (by omega) hk
    obtain ⟨c1, c2, c3⟩ := hl k hk
    have z := hP.1 k hk
    refine ⟨s1, ?_, ?_, ?_, s4, by omega, by omega⟩
    · rw [c1, s2]
    · rw [c2, s3]
    · rw [c3, s5, Int32.add_zero]
  · exact hp R T F L B C V _ _ _ _ _ _ _ hR h
end
section
variable {E t m a b : Nat} {p q w : Int32} {post : Int32 → SY → Prop} {qn : Int32} {th fr tl : Nat → Nat} {sy vl qf qt qv qf' qt' qv' : Nat → Int32} {pf pt : Nat → Nat} {pv : Nat → Int32}
theorem tt_yrai_t (hn : ¬ ∃ t, t < 6 ∧ p = nI t) (h : post (-1) (nI E, qn, tt_aI th, tt_aI fr, tt_aI tl, sy, vl, qf, qt, qv)) : wpY_raise post (nI E, qn, tt_aI th, tt_aI fr, tt_aI tl, sy, vl, qf, qt, qv) p q w := by
  unfold wpY_raise
  dsimp only
  exact tt_rf_t hn (br_f (by decide) h)
theorem tt_yrai_d (ht : t < 6) (e1 : q &&& 127 = nI a) (e2 : (q >>> ((7 : Int32) &&& 31)) &&& 127 = nI b) (ha : a < 128) (hb : b < 128) (hn : ¬ (a < b ∧ b ≤ 100)) (h : post (-2) (nI E, qn, tt_aI th, tt_aI fr, tt_aI tl, sy, vl, qf, qt, qv)) : wpY_raise post (nI E, qn, tt_aI th, tt_aI fr, tt_aI tl, sy, vl, qf, qt, qv) (nI t) q w := by
  unfold wpY_raise
  dsimp only
  exact tt_rf_d ht e1 e2 ha hb hn (br_f (by decide) h)
theorem tt_yrai_l (hE : E ≤ 40) (ht : t < 6) (e1 : q &&& 127 = nI a) (e2 : (q >>> ((7 : Int32) &&& 31)) &&& 127 = nI b) (hab : a < b) (hb : b ≤ 100) (hm : m ≤ 100) (hq : ∀ i, i < m → pf i < pt i ∧ pt i ≤ 100) (hl : tt_LA m qf' qt' qv' pf pt pv)
    (hY : ∀ post : SY → Prop, post (nI E, nI m, tt_aI th, tt_aI fr, tt_aI tl, sy, vl, qf', qt', qv') → wpY_list post (nI E, qn, tt_aI th, tt_aI fr, tt_aI tl, sy, vl, qf, qt, qv) (nI E) (nI t))
    (hy : E + tt_cnt pf pt a b m ≤ 40 → ∃ n, wY_raise_106 post (nI t) w (nI a) (nI b) (nI (tt_cnt pf pt a b m)) n 0 (nI E) (nI m) (tt_aI th) (tt_aI fr) (tt_aI tl) sy vl qf' qt' qv')
    (hno : 40 < E + tt_cnt pf pt a b m → post (-3) (nI E, nI m, tt_aI th, tt_aI fr, tt_aI tl, sy, vl, qf', qt', qv')) : wpY_raise post (nI E, qn, tt_aI th, tt_aI fr, tt_aI tl, sy, vl, qf, qt, qv) (nI t) q w := by
  unfold wpY_raise
  dsimp only
  refine tt_rf_y ht e1 e2 hab hb (br_t (by decide) (nm_r e1 (nm_r e2 (hY _ ?_))))
  dsimp only
  exact ⟨m + 1, tt_y46_loop hE hm (by omega) (by omega) hq hl hy hno m 0 (by omega)⟩
theorem tt_ycop_t (hn : ¬ ∃ t, t < 6 ∧ p = nI t) (h : post (-1) (nI E, qn, tt_aI th, tt_aI fr, tt_aI tl, sy, vl, qf, qt, qv)) : wpY_copy post (nI E, qn, tt_aI th, tt_aI fr, tt_aI tl, sy, vl, qf, qt, qv) p q := by
  unfold wpY_copy
  dsimp only
  exact tt_yT_n hn (br_t rfl h)
theorem tt_ycop_s (ht : t < 6) (hn : ¬ ∃ t, t < 6 ∧ q = nI t) (h : post (-1) (nI E, qn, tt_aI th, tt_aI fr, tt_aI tl, sy, vl, qf, qt, qv)) : wpY_copy post (nI E, qn, tt_aI th, tt_aI fr, tt_aI tl, sy, vl, qf, qt, qv) (nI t) q := by
  unfold wpY_copy
  dsimp only
  exact tt_yT_y ht (br_f (by decide) (tt_yT_n hn (br_t rfl h)))
theorem tt_ycop_l {s : Nat} (hE : E ≤ 40) (ht : t < 6) (hs : s < 6) (hm : m ≤ 100)
    (hY : ∀ post : SY → Prop, post (nI E, nI m, tt_aI th, tt_aI fr, tt_aI tl, sy, vl, qf', qt', qv') → wpY_list post (nI E, qn, tt_aI th, tt_aI fr, tt_aI tl, sy, vl, qf, qt, qv) (nI E) (nI t))
    (hy : E + m ≤ 40 → ∃ n, wY_copy_46 post (nI s) n 0 (nI E) (nI m) (tt_aI th) (tt_aI fr) (tt_aI tl) sy vl qf' qt' qv')
    (hno : 40 < E + m → post (-3) (nI E, nI m, tt_aI th, tt_aI fr, tt_aI tl, sy, vl, qf', qt', qv')) : wpY_copy post (nI E, qn, tt_aI th, tt_aI fr, tt_aI tl, sy, vl, qf, qt, qv) (nI t) (nI s) := by
  unfold wpY_copy
  dsimp only
  refine tt_yT_y ht (br_f (by decide) (tt_yT_y hs (br_f (by decide) (hY _ ?_))))
  dsimp only
  rw [nI_add]
  exact pk_le (E + m) 40 hy hno
end
theorem i_vc_raise {k : Nat} {u : SX} {v : SY} (I : i_Rel k u v) (hk : k + 4 ≤ 2048) (v1 : Int32) (v2 : Int32) (v3 : Int32) : wpX_raise (fun r u' => wpY_raise (fun r' v' => r' = r ∧ i_Rel (k + 4) u' v') v v1 v2 v3) u v1 v2 v3 := by
  refine tt_el (P := fun u v => wpX_raise (fun r u' => wpY_raise (fun r' v' => r' = r ∧ i_Rel (k + 4) u' v') v v1 v2 v3) u v1 v2 v3) I ?_
  intro E R ff ft fv ls T F L V B C lf lt lv qn th fr tl sy vl qf qt qv hE hR h0 h
  by_cases hT : ∃ t, t < 6 ∧ v1 = nI t
  · obtain ⟨t, ht, rfl⟩ := hT
    obtain ⟨a, b, ha, hb, ea, eb⟩ := tt_days v2
    by_cases hD : a < b ∧ b ≤ 100
    · obtain ⟨hab, hb'⟩ := hD
      obtain ⟨m, pf, pt, pv, qf', qt', qv', hl, hP, hY⟩ := tt_ylist (t := t) (qn := qn) (qf := qf) (qt := qt) (qv := qv) (sy := sy) (vl := vl) hE h0 (Nat.le_refl E) (by omega)
      have hm := tt_PC_m hP
      by_cases hM : E + tt_cnt pf pt a b m ≤ 40
      · obtain ⟨th', fr', tl', sy', vl', g1, g2, g3⟩ := tt_y106_loop (t := t) (more := v3) (E0 := E) hm hab hb' hP.1 hl hM m 0 (by omega) th fr tl sy vl
        refine tt_xrai_y h hE hR ht ea eb hab hb' hP hM g1 g2 ?_
        intro R' T F L B C V ff ft fv ls lf lt lv hR' h'
        refine tt_yrai_l hE ht ea eb hab hb' hm hP.1 hl hY (fun _ => ⟨m + 1, g3 _ ⟨rfl, tt_in hM hR' ?_ h'⟩⟩) (fun z => absurd hM (by omega))
        intro e he
        by_cases c : e < E
        · obtain ⟨y1, y2, y3, _⟩ := g1 e c
          rw [y1, y2, y3]
          exact h0 e c
        · obtain ⟨j, hj, hh, ej⟩ := tt_cnt_ex (pf := pf) (pt := pt) (a := a) (b := b) m (e - E) (by omega)
          obtain ⟨s1, s2, s3, s4, s5⟩ := g2 j (by omega) hj hh
          have ee : E + tt_cnt pf pt a b j = e := by omega
          rw [ee] at s1 s2 s3
          have z := (tt_hit (x := pf j) (y := pt j) hab (hP.1 j hj).1).mpr hh
          have zb : tt_mn (pt j) b ≤ b := by
            unfold tt_mn
            by_cases c : b ≤ pt j
            · rw [if_pos c]; exact Nat.le_refl _
            · rw [if_neg c]; omega
          rw [s1, s2, s3]
          exact ⟨ht, z, by omega⟩
      · refine tt_xrai_f h hE hR ht ea eb hab hb' hP (by omega) ?_
        intro ff ft fv ls lf lt lv
        exact tt_yrai_l hE ht ea eb hab hb' hm hP.1 hl hY (fun z => absurd z hM) (fun _ => ⟨rfl, tt_in hE hR h0 h⟩)
    · exact tt_xrai_d ht ea eb ha hb hD (tt_yrai_d ht ea eb ha hb hD ⟨rfl, tt_in hE hR h0 h⟩)
  · exact tt_xrai_t hT (tt_yrai_t hT ⟨rfl, tt_in hE hR h0 h⟩)
theorem i_vc_copy {k : Nat} {u : SX} {v : SY} (I : i_Rel k u v) (hk : k + 4 ≤ 2048) (v1 : Int32) (v2 : Int32) : wpX_copy (fun r u' => wpY_copy (fun r' v' => r' = r ∧ i_Rel (k + 4) u' v') v v1 v2) u v1 v2 := by
  refine tt_el (P := fun u v => wpX_copy (fun r u' => wpY_copy (fun r' v' => r' = r ∧ i_Rel (k + 4) u' v') v v1 v2) u v1 v2) I ?_
  intro E R ff ft fv ls T F L V B C lf lt lv qn th fr tl sy vl qf qt qv hE hR h0 h
  by_cases hT : ∃ t, t < 6 ∧ v1 = nI t
  · obtain ⟨t, ht, rfl⟩ := hT
    by_cases hS : ∃ t, t < 6 ∧ v2 = nI t
    · obtain ⟨s, hs, rfl⟩ := hS
      obtain ⟨m, pf, pt, pv, qf', qt', qv', hl, hP, hY⟩ := tt_ylist (t := t) (qn := qn) (qf := qf) (qt := qt) (qv := qv) (sy := sy) (vl := vl) hE h0 (Nat.le_refl E) (by omega)
      have hm := tt_PC_m hP
      by_cases hM : E + m ≤ 40
      · obtain ⟨th', fr', tl', sy', vl', g1, g2, g3⟩ := tt_ycopy_loop (t := s) (E0 := E) hl hM m 0 (by omega) th fr tl sy vl
        refine tt_xcop_y h hE hR ht hs hP hM g1 g2 ?_
        intro R' T F L B C V ff ft fv ls lf lt lv hR' h'
        refine tt_ycop_l hE ht hs hm hY (fun _ => ⟨m + 1, g3 _ ⟨rfl, tt_in hM hR' ?_ h'⟩⟩) (fun z => absurd hM (by omega))
        intro e he
        by_cases c : e < E
        · obtain ⟨y1, y2, y3, _⟩ := g1 e c
          rw [y1, y2, y3]
          exact h0 e c
        · obtain ⟨s1, s2, s3, s4, s5⟩ := g2 (e - E) (by omega) (by omega)
          have ee : E + (e - E) = e := by omega
          rw [ee] at s1 s2 s3
          have z := hP.1 (e - E) (by omega)
          rw [s1, s2, s3]
          exact ⟨hs, z⟩
      · refine tt_xcop_f h hE hR ht hs hP (by omega) ?_
        intro ff ft fv ls lf lt lv
        exact tt_ycop_l hE ht hs hm hY (fun z => absurd z hM) (fun _ => ⟨rfl, tt_in hE hR h0 h⟩)
    · exact tt_xcop_s ht hS (tt_ycop_s ht hS ⟨rfl, tt_in hE hR h0 h⟩)
  · exact tt_xcop_t hT (tt_ycop_t hT ⟨rfl, tt_in hE hR h0 h⟩)
end
section
/-! the questions -/
section
variable {E R n m t d : Nat} {ff ft fv ls : Int32} {T F L B C : Nat → Nat} {V lf lt lv : Nat → Int32} {K : Nat → Nat → Nat → Option Int32} {p q w : Int32} {pf pt : Nat → Nat} {pv : Nat → Int32}
theorem tt_xat_y {post : Int32 → Prop} (h : tt_RX E R T F L B C V K) (hE : E ≤ 40) (hR : R ≤ 120) (hn : n ≤ E) (ht : t < 6) (hd : d < 100) (hs : ∀ v, K n t d = some v → post v) (hno : K n t d = none → post (-5)) : wpX_at post (nI E, nI R, ff, ft, fv, ls, tt_aI T, tt_aI F, tt_aI L, V, tt_aI B, tt_aI C, lf, lt, lv) (nI n) (nI t) (nI d) := by
  unfold wpX_at
  dsimp only
  refine tt_bE_y hE hn (br_t rfl (tt_bT_y ht (br_t rfl (tt_bd_y hd (br_t rfl (tt_rowK h hE hR hn (by omega) (by omega) (fun r hr hc hk e => ?_) (fun e => br_f (by decide) (hno e))))))))
  rw [tt_cl r (by omega)]
  exact br_t (nI_pos' (by omega)) ⟨vp_in_nI (by omega) (by decide), hs _ e⟩
theorem tt_xknown_y {post : Int32 → Prop} (h : tt_RX E R T F L B C V K) (hE : E ≤ 40) (hR : R ≤ 120) (hn : n ≤ E) (ht : t < 6) (hd : d < 100) (hs : ∀ v, K n t d = some v → post 1) (hno : K n t d = none → post 0) : wpX_known post (nI E, nI R, ff, ft, fv, ls, tt_aI T, tt_aI F, tt_aI L, V, tt_aI B, tt_aI C, lf, lt, lv) (nI n) (nI t) (nI d) := by
  unfold wpX_known
  dsimp only
  exact tt_bE_y hE hn (br_t rfl (tt_bT_y ht (br_t rfl (tt_bd_y hd (br_t rfl (tt_rowK h hE hR hn (by omega) (by omega) (fun r hr hc hk e => br_f (nI_pos (by omega)) (hs _ e)) (fun e => br_t (by decide) (hno e))))))))
end
theorem i_vc_at {k : Nat} {u : SX} {v : SY} (I : i_Rel k u v) (hk : k + 4 ≤ 2048) (v1 : Int32) (v2 : Int32) (v3 : Int32) : wpX_at (fun r => wpY_at (fun r' => r' = r ∧ i_Rel (k + 4) u v) v v1 v2 v3) u v1 v2 v3 := by
  refine tt_el (P := fun u v => wpX_at (fun r => wpY_at (fun r' => r' = r ∧ i_Rel (k + 4) u v) v v1 v2 v3) u v1 v2 v3) I ?_
  intro E R ff ft fv ls T F L V B C lf lt lv qn th fr tl sy vl qf qt qv hE hR h0 h
  have J : i_Rel (k + 4) (nI E, nI R, ff, ft, fv, ls, tt_aI T, tt_aI F, tt_aI L, V, tt_aI B, tt_aI C, lf, lt, lv) (nI E, qn, tt_aI th, tt_aI fr, tt_aI tl, sy, vl, qf, qt, qv) := tt_in hE hR h0 h
  by_cases hN : ∃ n, n ≤ E ∧ v1 = nI n
  · obtain ⟨n, hn, rfl⟩ := hN
    by_cases hT : ∃ t, t < 6 ∧ v2 = nI t
    · obtain ⟨t, ht, rfl⟩ := hT
      by_cases hD : ∃ d, d < 100 ∧ v3 = nI d
      · obtain ⟨d, hd, rfl⟩ := hD
        refine tt_xat_y h hE (by omega) hn ht hd (fun v e => ?_) (fun e => ?_)
        · unfold wpY_at
          dsimp only
          exact tt_yE_y hE hn (br_f (by decide) (tt_yT_y ht (br_f (by decide) (tt_yd_y hd (br_f (by decide) (tt_va_s hE h0 hn (by omega) (by omega) e ⟨rfl, J⟩))))))
        · unfold wpY_at
          dsimp only
          exact tt_yE_y hE hn (br_f (by decide) (tt_yT_y ht (br_f (by decide) (tt_yd_y hd (br_f (by decide) (tt_va_n hE h0 hn (by omega) (by omega) e ⟨rfl, J⟩))))))
      · unfold wpX_at wpY_at
        dsimp only
        exact tt_bE_y hE hn (br_t rfl (tt_bT_y ht (br_t rfl (tt_bd_n hD (br_f (by decide) (tt_yE_y hE hn (br_f (by decide) (tt_yT_y ht (br_f (by decide) (tt_yd_n hD (br_t rfl ⟨rfl, J⟩)))))))))))
    · unfold wpX_at wpY_at
      dsimp only
      exact tt_bE_y hE hn (br_t rfl (tt_bT_n hT (br_f (by decide) (tt_yE_y hE hn (br_f (by decide) (tt_yT_n hT (br_t rfl ⟨rfl, J⟩)))))))
  · unfold wpX_at wpY_at
    dsimp only
    exact tt_bE_n hE hN (br_f (by decide) (tt_yE_n hE hN (br_t rfl ⟨rfl, J⟩)))
theorem i_vc_known {k : Nat} {u : SX} {v : SY} (I : i_Rel k u v) (hk : k + 4 ≤ 2048) (v1 : Int32) (v2 : Int32) (v3 : Int32) : wpX_known (fun r => wpY_known (fun r' => r' = r ∧ i_Rel (k + 4) u v) v v1 v2 v3) u v1 v2 v3 := by
  refine tt_el (P := fun u v => wpX_known (fun r => wpY_known (fun r' => r' = r ∧ i_Rel (k + 4) u v) v v1 v2 v3) u v1 v2 v3) I ?_
  intro E R ff ft fv ls T F L V B C lf lt lv qn th fr tl sy vl qf qt qv hE hR h0 h
  have J : i_Rel (k + 4) (nI E, nI R, ff, ft, fv, ls, tt_aI T, tt_aI F, tt_aI L, V, tt_aI B, tt_aI C, lf, lt, lv) (nI E, qn, tt_aI th, tt_aI fr, tt_aI tl, sy, vl, qf, qt, qv) := tt_in hE hR h0 h
  by_cases hN : ∃ n, n ≤ E ∧ v1 = nI n
  · obtain ⟨n, hn, rfl⟩ := hN
    by_cases hT : ∃ t, t < 6 ∧ v2 = nI t
    · obtain ⟨t, ht, rfl⟩ := hT
      by_cases hD : ∃ d, d < 100 ∧ v3 = nI d
      · obtain ⟨d, hd, rfl⟩ := hD
        refine tt_xknown_y h hE (by omega) hn ht hd (fun v e => ?_) (fun e => ?_)
        · unfold wpY_known
          dsimp only
          exact tt_yE_y hE hn (br_f (by decide) (tt_yT_y ht (br_f (by decide) (tt_yd_y hd (br_f (by decide) (tt_kn_s hE h0 hn (by omega) (by omega) e (br_f (by decide) ⟨rfl, J⟩)))))))
        · unfold wpY_known
          dsimp only
          exact tt_yE_y hE hn (br_f (by decide) (tt_yT_y ht (br_f (by decide) (tt_yd_y hd (br_f (by decide) (tt_kn_n hE h0 hn (by omega) (by omega) e (br_t rfl ⟨rfl, J⟩)))))))
      · unfold wpX_known wpY_known
        dsimp only
        exact tt_bE_y hE hn (br_t rfl (tt_bT_y ht (br_t rfl (tt_bd_n hD (br_f (by decide) (tt_yE_y hE hn (br_f (by decide) (tt_yT_y ht (br_f (by decide) (tt_yd_n hD (br_t rfl ⟨rfl, J⟩)))))))))))
    · unfold wpX_known wpY_known
      dsimp only
      exact tt_bE_y hE hn (br_t rfl (tt_bT_n hT (br_f (by decide) (tt_yE_y hE hn (br_f (by decide) (tt_yT_n hT (br_t rfl ⟨rfl, J⟩)))))))
  · unfold wpX_known wpY_known
    dsimp only
    exact tt_bE_n hE hN (br_f (by decide) (tt_yE_n hE hN (br_t rfl ⟨rfl, J⟩)))
theorem i_vc_pieces {k : Nat} {u : SX} {v : SY} (I : i_Rel k u v) (hk : k + 4 ≤ 2048) (v1 : Int32) (v2 : Int32) : wpX_pieces (fun r u' => wpY_pieces (fun r' v' => r' = r ∧ i_Rel (k + 4) u' v') v v1 v2) u v1 v2 := by
  refine tt_el (P := fun u v => wpX_pieces (fun r u' => wpY_pieces (fun r' v' => r' = r ∧ i_Rel (k + 4) u' v') v v1 v2) u v1 v2) I ?_
  intro E R ff ft fv ls T F L V B C lf lt lv qn th fr tl sy vl qf qt qv hE hR h0 h
  by_cases hN : ∃ n, n ≤ E ∧ v1 = nI n
  · obtain ⟨n, hn, rfl⟩ := hN
    by_cases hT : ∃ t, t < 6 ∧ v2 = nI t
    · obtain ⟨t, ht, rfl⟩ := hT
      obtain ⟨m, pf, pt, pv, qf', qt', qv', hl, hP, hY⟩ := tt_ylist (t := t) (qn := qn) (qf := qf) (qt := qt) (qv := qv) (sy := sy) (vl := vl) hE h0 hn (by omega)
      refine tt_xpieces h hE (by omega) hn ht hP (fun ff ft fv => ?_)
      unfold wpY_pieces
      dsimp only
      exact tt_yE_y hE hn (br_f (by decide) (tt_yT_y ht (br_f (by decide) (hY _ ⟨rfl, tt_in hE hR h0 h⟩))))
    · unfold wpX_pieces wpY_pieces
      dsimp only
      exact tt_bE_y hE hn (br_t rfl (tt_bT_n hT (br_f (by decide) (tt_yE_y hE hn (br_f (by decide) (tt_yT_n hT (br_t rfl ⟨rfl, tt_in hE hR h0 h⟩)))))))
  · unfold wpX_pieces wpY_pieces
    dsimp only
    exact tt_bE_n hE hN (br_f (by decide) (tt_yE_n hE hN (br_t rfl ⟨rfl, tt_in hE hR h0 h⟩)))
theorem i_vc_pieceFrom {k : Nat} {u : SX} {v : SY} (I : i_Rel k u v) (hk : k + 4 ≤ 2048) (v1 : Int32) (v2 : Int32) (v3 : Int32) : wpX_pieceFrom (fun r u' => wpY_pieceFrom (fun r' v' => r' = r ∧ i_Rel (k + 4) u' v') v v1 v2 v3) u v1 v2 v3 := by
  refine tt_el (P := fun u v => wpX_pieceFrom (fun r u' => wpY_pieceFrom (fun r' v' => r' = r ∧ i_Rel (k + 4) u' v') v v1 v2 v3) u v1 v2 v3) I ?_
  intro E R ff ft fv ls T F L V B C lf lt lv qn th fr tl sy vl qf qt qv hE hR h0 h
  by_cases hN : ∃ n, n ≤ E ∧ v1 = nI n
  · obtain ⟨n, hn, rfl⟩ := hN
    by_cases hT : ∃ t, t < 6 ∧ v2 = nI t
    · obtain ⟨t, ht, rfl⟩ := hT
      obtain ⟨m, pf, pt, pv, qf', qt', qv', hl, hP, hY⟩ := tt_ylist (t := t) (qn := qn) (qf := qf) (qt := qt) (qv := qv) (sy := sy) (vl := vl) hE h0 hn (by omega)
      have hm := tt_PC_m hP
      unfold wpX_pieceFrom wpY_pieceFrom wpY_pieces
      dsimp only
      refine tt_bE_y hE hn (br_t rfl (tt_bT_y ht (br_t rfl ?_)))
      by_cases c : v3 < 0
      · unfold wpX_seekPiece
        dsimp only
        refine br_f (Int32.not_le.mpr c) (br_t rfl (tt_yE_y hE hn (br_f (by decide) (tt_yT_y ht (br_f (by decide) (hY _ ?_))))))
        dsimp only
        exact br_t (nI_pos' (by omega)) (br_t c ⟨rfl, tt_in hE hR h0 h⟩)
      · obtain ⟨i, hi, rfl⟩ := nI_of c
        refine tt_seek h hE (by omega) hn (by omega) hP hi (fun z => ?_) (fun z ff ft fv => ?_)
        · dsimp only
          refine br_f (by decide) (tt_yE_y hE hn (br_f (by decide) (tt_yT_y ht (br_f (by decide) (hY _ ?_)))))
          dsimp only
          rw [tt_cl i (by omega)]
          exact br_t (nI_pos' (by omega)) (br_f c (br_f (nI_ge z (by omega)) ⟨vp_in_nI (by omega) (by decide), (hl i z).1, tt_in hE hR h0 h⟩))
        · dsimp only
          refine br_t rfl (tt_yE_y hE hn (br_f (by decide) (tt_yT_y ht (br_f (by decide) (hY _ ?_)))))
          dsimp only
          exact br_t (nI_pos' (by omega)) (br_f c (br_t (nI_le z hi) ⟨rfl, tt_in hE hR h0 h⟩))
    · unfold wpX_pieceFrom wpY_pieceFrom wpY_pieces
      dsimp only
      exact tt_bE_y hE hn (br_t rfl (tt_bT_n hT (br_f (by decide) (tt_yE_y hE hn (br_f (by decide) (tt_yT_n hT (br_t rfl (br_f (by decide) ⟨rfl, tt_in hE hR h0 h⟩))))))))
  · unfold wpX_pieceFrom wpY_pieceFrom wpY_pieces
    dsimp only
    exact tt_bE_n hE hN (br_f (by decide) (tt_yE_n hE hN (br_t rfl (br_f (by decide) ⟨rfl, tt_in hE hR h0 h⟩))))
theorem i_vc_pieceTo {k : Nat} {u : SX} {v : SY} (I : i_Rel k u v) (hk : k + 4 ≤ 2048) (v1 : Int32) (v2 : Int32) (v3 : Int32) : wpX_pieceTo (fun r u' => wpY_pieceTo (fun r' v' => r' = r ∧ i_Rel (k + 4) u' v') v v1 v2 v3) u v1 v2 v3 := by
  refine tt_el (P := fun u v => wpX_pieceTo (fun r u' => wpY_pieceTo (fun r' v' => r' = r ∧ i_Rel (k + 4) u' v') v v1 v2 v3) u v1 v2 v3) I ?_
  intro E R ff ft fv ls T F L V B C lf lt lv qn th fr tl sy vl qf qt qv hE hR h0 h
  by_cases hN : ∃ n, n ≤ E ∧ v1 = nI n
  · obtain ⟨n, hn, rfl⟩ := hN
    by_cases hT : ∃ t, t < 6 ∧ v2 = nI t
    · obtain ⟨t, ht, rfl⟩ := hT
      obtain ⟨m, pf, pt, pv, qf', qt', qv', hl, hP, hY⟩ := tt_ylist (t := t) (qn := qn) (qf := qf) (qt := qt) (qv := qv) (sy := sy) (vl := vl) hE h0 hn (by omega)
      have hm := tt_PC_m hP
      unfold wpX_pieceTo wpY_pieceTo wpY_pieces
      dsimp only
      refine tt_bE_y hE hn (br_t rfl (tt_bT_y ht (br_t rfl ?_)))
      by_cases c : v3 < 0
      · unfold wpX_seekPiece
        dsimp only
        refine br_f (Int32.not_le.mpr c) (br_t rfl (tt_yE_y hE hn (br_f (by decide) (tt_yT_y ht (br_f (by decide) (hY _ ?_))))))
        dsimp only
        exact br_t (nI_pos' (by omega)) (br_t c ⟨rfl, tt_in hE hR h0 h⟩)
      · obtain ⟨i, hi, rfl⟩ := nI_of c
        refine tt_seek h hE (by omega) hn (by omega) hP hi (fun z => ?_) (fun z ff ft fv => ?_)
        · dsimp only
          refine br_f (by decide) (tt_yE_y hE hn (br_f (by decide) (tt_yT_y ht (br_f (by decide) (hY _ ?_)))))
          dsimp only
          rw [tt_cl i (by omega)]
          exact br_t (nI_pos' (by omega)) (br_f c (br_f (nI_ge z (by omega)) ⟨vp_in_nI (by omega) (by decide), (hl i z).2.1, tt_in hE hR h0 h⟩))
        · dsimp only
          refine br_t rfl (tt_yE_y hE hn (br_f (by decide) (tt_yT_y ht (br_f (by decide) (hY _ ?_)))))
          dsimp only
          exact br_t (nI_pos' (by omega)) (br_f c (br_t (nI_le z hi) ⟨rfl, tt_in hE hR h0 h⟩))
    · unfold wpX_pieceTo wpY_pieceTo wpY_pieces
      dsimp only
      exact tt_bE_y hE hn (br_t rfl (tt_bT_n hT (br_f (by decide) (tt_yE_y hE hn (br_f (by decide) (tt_yT_n hT (br_t rfl (br_f (by decide) ⟨rfl, tt_in hE hR h0 h⟩))))))))
  · unfold wpX_pieceTo wpY_pieceTo wpY_pieces
    dsimp only
    exact tt_bE_n hE hN (br_f (by decide) (tt_yE_n hE hN (br_t rfl (br_f (by decide) ⟨rfl, tt_in hE hR h0 h⟩))))
theorem i_vc_sumAt {k : Nat} {u : SX} {v : SY} (I : i_Rel k u v) (hk : k + 4 ≤ 2048) (v1 : Int32) (v2 : Int32) : wpX_sumAt (fun r => wpY_sumAt (fun r' => r' = r ∧ i_Rel (k + 4) u v) v v1 v2) u v1 v2 := by
  refine tt_el (P := fun u v => wpX_sumAt (fun r => wpY_sumAt (fun r' => r' = r ∧ i_Rel (k + 4) u v) v v1 v2) u v1 v2) I ?_
  intro E R ff ft fv ls T F L V B C lf lt lv qn th fr tl sy vl qf qt qv hE hR h0 h
  have J : i_Rel (k + 4) (nI E, nI R, ff, ft, fv, ls, tt_aI T, tt_aI F, tt_aI L, V, tt_aI B, tt_aI C, lf, lt, lv) (nI E, qn, tt_aI th, tt_aI fr, tt_aI tl, sy, vl, qf, qt, qv) := tt_in hE hR h0 h
  by_cases hN : ∃ n, n ≤ E ∧ v1 = nI n
  · obtain ⟨n, hn, rfl⟩ := hN
    by_cases hD : ∃ d, d < 100 ∧ v2 = nI d
    · obtain ⟨d, hd, rfl⟩ := hD
      exact tt_xsumAt hE (by omega) h.1 hn hd (tt_ysumAt hE h0 hn hd ⟨(tt_sum h hn).symm, J⟩)
    · unfold wpX_sumAt wpY_sumAt
      dsimp only
      exact tt_bE_y hE hn (br_t rfl (tt_bd_n hD (br_f (by decide) (tt_yE_y hE hn (br_f (by decide) (tt_yd_n hD (br_t rfl ⟨rfl, J⟩)))))))
  · unfold wpX_sumAt wpY_sumAt
    dsimp only
    exact tt_bE_n hE hN (br_f (by decide) (tt_yE_n hE hN (br_t rfl ⟨rfl, J⟩)))
theorem i_vc_changed {k : Nat} {u : SX} {v : SY} (I : i_Rel k u v) (hk : k + 4 ≤ 2048) (v1 : Int32) (v2 : Int32) (v3 : Int32) : wpX_changed (fun r => wpY_changed (fun r' => r' = r ∧ i_Rel (k + 4) u v) v v1 v2 v3) u v1 v2 v3 := by
  refine tt_el (P := fun u v => wpX_changed (fun r => wpY_changed (fun r' => r' = r ∧ i_Rel (k + 4) u v) v v1 v2 v3) u v1 v2 v3) I ?_
  intro E R ff ft fv ls T F L V B C lf lt lv qn th fr tl sy vl qf qt qv hE hR h0 h
  have J : i_Rel (k + 4) (nI E, nI R, ff, ft, fv, ls, tt_aI T, tt_aI F, tt_aI L, V, tt_aI B, tt_aI C, lf, lt, lv) (nI E, qn, tt_aI th, tt_aI fr, tt_aI tl, sy, vl, qf, qt, qv) := tt_in hE hR h0 h
  by_cases hN : ∃ n, n ≤ E ∧ v1 = nI n
  · obtain ⟨n, hn, rfl⟩ := hN
    by_cases hM : ∃ n, n ≤ E ∧ v2 = nI n
    · obtain ⟨m, hm, rfl⟩ := hM
      by_cases hT : ∃ t, t < 6 ∧ v3 = nI t
      · obtain ⟨t, ht, rfl⟩ := hT
        exact tt_xchg h hE (by omega) hn hm ht (tt_ychg hE h0 hn hm ht ⟨rfl, J⟩)
      · unfold wpX_changed wpY_changed
        dsimp only
        exact tt_bE_y hE hn (br_t rfl (tt_bE_y hE hm (br_t rfl (tt_bT_n hT (br_f (by decide) (tt_yE_y hE hn (br_f (by decide) (tt_yE_y hE hm (br_f (by decide) (tt_yT_n hT (br_t rfl ⟨rfl, J⟩)))))))))))
    · unfold wpX_changed wpY_changed
      dsimp only
      exact tt_bE_y hE hn (br_t rfl (tt_bE_n hE hM (br_f (by decide) (tt_yE_y hE hn (br_f (by decide) (tt_yE_n hE hM (br_t rfl ⟨rfl, J⟩)))))))
  · unfold wpX_changed wpY_changed
    dsimp only
    exact tt_bE_n hE hN (br_f (by decide) (tt_yE_n hE hN (br_t rfl ⟨rfl, J⟩)))
theorem i_vc_since {k : Nat} {u : SX} {v : SY} (I : i_Rel k u v) (hk : k + 4 ≤ 2048) (v1 : Int32) (v2 : Int32) : wpX_since (fun r => wpY_since (fun r' => r' = r ∧ i_Rel (k + 4) u v) v v1 v2) u v1 v2 := by
  refine tt_el (P := fun u v => wpX_since (fun r => wpY_since (fun r' => r' = r ∧ i_Rel (k + 4) u v) v v1 v2) u v1 v2) I ?_
  intro E R ff ft fv ls T F L V B C lf lt lv qn th fr tl sy vl qf qt qv hE hR h0 h
  have J : i_Rel (k + 4) (nI E, nI R, ff, ft, fv, ls, tt_aI T, tt_aI F, tt_aI L, V, tt_aI B, tt_aI C, lf, lt, lv) (nI E, qn, tt_aI th, tt_aI fr, tt_aI tl, sy, vl, qf, qt, qv) := tt_in hE hR h0 h
  by_cases hT : ∃ t, t < 6 ∧ v1 = nI t
  · obtain ⟨t, ht, rfl⟩ := hT
    by_cases hD : ∃ d, d < 100 ∧ v2 = nI d
    · obtain ⟨d, hd, rfl⟩ := hD
      refine tt_xsince h rfl hE (by omega) ht hd (fun s hs => tt_ysince hE h0 ht hd (fun s' hs' => ⟨?_, J⟩))
      rw [tt_SI_u hs hs']
    · unfold wpX_since wpY_since
      dsimp only
      exact tt_bT_y ht (br_t rfl (tt_bd_n hD (br_f (by decide) (tt_yT_y ht (br_f (by decide) (tt_yd_n hD (br_t rfl ⟨rfl, J⟩)))))))
  · unfold wpX_since wpY_since
    dsimp only
    exact tt_bT_n hT (br_f (by decide) (tt_yT_n hT (br_t rfl ⟨rfl, J⟩)))
end
