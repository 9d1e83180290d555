section
/-! ### small numbers -/
theorem cs_b8 : ∀ e, e < 128 → (nI e).toInt8.toInt32 = nI e := by decide +kernel
theorem cs_s16 : ∀ e, e < 512 → (nI e).toInt16.toInt32 = nI e := by decide +kernel
theorem cs_nb {e : Nat} (h : e < 128) : vp_nar .byte (nI e) = nI e := by rw [vp_nar_byte, cs_b8 e h]
theorem cs_ix7 (w s : Nat) : nI w * 7 + nI s = nI (w * 7 + s) := by rw [show (7 : Int32) = nI 7 from rfl, pk_mul, nI_add]
theorem cs_ix70 (w : Nat) : nI w * 7 = nI (w * 7) := by rw [show (7 : Int32) = nI 7 from rfl, pk_mul]
theorem cs_ix4 (w s : Nat) : nI w * 4 + nI s = nI (w * 4 + s) := by rw [show (4 : Int32) = nI 4 from rfl, pk_mul, nI_add]
theorem cs_m1 {v : Nat} (h : v < 2 ^ 31) : ¬ nI v = -1 := by
  intro e
  exact nI_pos h (by rw [e]; decide)
theorem cs_inj {a b : Nat} (h : nI a = nI b) (ha : a < 2 ^ 31) (hb : b < 2 ^ 31) : a = b := (nI_eq ha hb).mp h
/-! ### the matching machine -/
def cs_it (f : Nat → Nat) : Nat → Nat → Nat
  | 0, q => q
  | k + 1, q => cs_it f k (f q)
def cs_R (f : Nat → Nat) (p q : Nat) : Prop := ∃ k, cs_it f k q = p
/-- rows below s are built; f: the longest beginning that is an ending -/
def cs_mac (m s : Nat) (T : Nat → Nat → Nat) (f : Nat → Nat) : Prop :=
  f 0 = 0 ∧ (∀ q, 1 ≤ q → q ≤ s → f q < q) ∧
  (∀ q a, q < s → a < 4 → T q a ≤ m ∧ T q a ≤ q + 1 ∧ (T q a = T (f q) a ∨ f (T q a) = T (f q) a))
/-- what the rest needs of a machine -/
def cs_M (m : Nat) (R : Nat → Nat → Prop) (T : Nat → Nat → Nat) (a7 : Nat → Int32) : Prop :=
  (∀ s a, s ≤ m → a < 4 → a7 (s * 4 + a) = nI (T s a) ∧ T s a ≤ m ∧ T s a ≤ s + 1) ∧
  (∀ p q a, R p q → q ≤ m → a < 4 → R (T p a) (T q a)) ∧ (∀ s, s ≤ m → R 0 s) ∧ (∀ p q, R p q → q ≤ m → p ≤ q) ∧ (∀ p, R p p)
theorem cs_it_le {f : Nat → Nat} {m : Nat} (h : ∀ q, q ≤ m → f q ≤ q) : ∀ k q, q ≤ m → cs_it f k q ≤ q := by
  intro k
  induction k with
  | zero => intro q _; exact Nat.le_refl q
  | succ k ih =>
    intro q hq
    have h1 := h q hq
    have h2 := ih (f q) (by omega)
    show cs_it f k (f q) ≤ q
    omega
theorem cs_it_0 {f : Nat → Nat} {m : Nat} (h : ∀ q, 1 ≤ q → q ≤ m → f q < q) : ∀ q, q ≤ m → ∃ k, cs_it f k q = 0 := by
  intro q
  induction q using Nat.strongRecOn with
  | _ q ih =>
    intro hq
    by_cases h0 : q = 0
    · exact ⟨0, h0⟩
    · have h1 := h q (by omega) hq
      obtain ⟨k, hk⟩ := ih (f q) h1 (by omega)
      exact ⟨k + 1, hk⟩
theorem cs_it_sim {f : Nat → Nat} {T : Nat → Nat → Nat} {m a : Nat} (h0 : ∀ q, q ≤ m → f q ≤ q) (h : ∀ q, q ≤ m → T q a = T (f q) a ∨ f (T q a) = T (f q) a) : ∀ k q, q ≤ m → ∃ j, cs_it f j (T q a) = T (cs_it f k q) a := by
  intro k
  induction k with
  | zero => intro q _; exact ⟨0, rfl⟩
  | succ k ih =>
    intro q hq
    have h1 := h0 q hq
    obtain ⟨j, hj⟩ := ih (f q) (by omega)
    rcases h q hq with e | e
    · refine ⟨j, ?_⟩
      rw [e]
      exact hj
    · refine ⟨j + 1, ?_⟩
      show cs_it f j (f (T q a)) = T (cs_it f k (f q)) a
      rw [e]
      exact hj
theorem cs_mac_le {m s : Nat} {T : Nat → Nat → Nat} {f : Nat → Nat} (h : cs_mac m s T f) : ∀ q, q ≤ s → f q ≤ q := by
  obtain ⟨h0, h1, h2⟩ := h
  intro q hq
  by_cases e : q = 0
  · rw [e, h0]
    exact Nat.le_refl 0
  · have := h1 q (by omega) hq
    omega
theorem cs_mac_M {m : Nat} {T : Nat → Nat → Nat} {f : Nat → Nat} {a7 : Nat → Int32} (h : cs_mac m (m + 1) T f) (ha : ∀ q a, q < m + 1 → a < 4 → a7 (q * 4 + a) = nI (T q a)) : cs_M m (cs_R f) T a7 := by
  have hle : ∀ q, q ≤ m → f q ≤ q := fun q hq => cs_mac_le h q (by omega)
  obtain ⟨h0, h1, h2⟩ := h
  refine ⟨fun s a hs h4 => ⟨ha s a (by omega) h4, (h2 s a (by omega) h4).1, (h2 s a (by omega) h4).2.1⟩, ?_, ?_, ?_, ?_⟩
  · intro p q a hR hq h4
    obtain ⟨k, hk⟩ := hR
    obtain ⟨j, hj⟩ := cs_it_sim (T := T) (a := a) hle (fun q hq => (h2 q a (by omega) h4).2.2) k q hq
    exact ⟨j, by rw [hj, hk]⟩
  · intro s hs
    exact cs_it_0 (fun q a b => h1 q a (by omega)) s hs
  · intro p q hR hq
    obtain ⟨k, hk⟩ := hR
    rw [← hk]
    exact cs_it_le hle k q hq
  · intro p
    exact ⟨0, rfl⟩
theorem cs_mac_next {m s x : Nat} {T T' : Nat → Nat → Nat} {f f' : Nat → Nat} (h : cs_mac m s T f) (hs : s < m) (hx : x < 4)
    (t1 : ∀ q a, q < s → T' q a = T q a) (t2 : T' s x = s + 1) (t3 : s = 0 → ∀ a, a ≠ x → T' s a = 0) (t4 : 0 < s → ∀ a, a ≠ x → T' s a = T (f s) a)
    (f1 : ∀ q, q ≤ s → f' q = f q) (f2 : s = 0 → f' (s + 1) = 0) (f3 : 0 < s → f' (s + 1) = T (f s) x) : cs_mac m (s + 1) T' f' := by
  have hle := cs_mac_le h
  obtain ⟨h0, h1, h2⟩ := h
  refine ⟨by rw [f1 0 (by omega), h0], ?_, ?_⟩
  · intro q hq1 hq2
    by_cases e : q = s + 1
    · by_cases z : s = 0
      · have g := f2 z
        rw [e]
        omega
      · have g1 := h1 s (by omega) (Nat.le_refl s)
        have g2 := (h2 (f s) x g1 hx).2.1
        have g3 := f3 (by omega)
        rw [e]
        omega
    · rw [f1 q (by omega)]
      exact h1 q hq1 (by omega)
  · intro q a hq ha
    by_cases e : q = s
    · rw [e, f1 s (Nat.le_refl s)]
      by_cases z : s = 0
      · have hf : f s = s := by rw [z, h0]
        rw [hf]
        by_cases c : a = x
        · have g : T' s a = s + 1 := by rw [c, t2]
          exact ⟨by omega, by omega, Or.inl rfl⟩
        · have g := t3 z a c
          exact ⟨by omega, by omega, Or.inl rfl⟩
      · have g1 := h1 s (by omega) (Nat.le_refl s)
        have g2 := h2 (f s) a g1 ha
        have g3 := t1 (f s) a g1
        by_cases c : a = x
        · have g : T' s a = s + 1 := by rw [c, t2]
          refine ⟨by omega, by omega, Or.inr ?_⟩
          rw [g, f3 (by omega), g3, c]
        · have g := t4 (by omega) a c
          exact ⟨by omega, by omega, Or.inl (by rw [g, g3])⟩
    · have g := h2 q a (by omega) ha
      have e2 := hle q (by omega)
      rw [t1 q a (by omega), f1 q (by omega), t1 (f q) a (by omega), f1 (T q a) (by omega)]
      exact g
theorem cs_mac_last {m : Nat} {T T' : Nat → Nat → Nat} {f f' : Nat → Nat} (h : cs_mac m m T f)
    (t1 : ∀ q a, q < m → T' q a = T q a) (t3 : m = 0 → ∀ a, T' m a = 0) (t4 : 0 < m → ∀ a, T' m a = T (f m) a)
    (f1 : ∀ q, q ≤ m → f' q = f q) (f2 : f' (m + 1) = 0) : cs_mac m (m + 1) T' f' := by
  have hle := cs_mac_le h
  obtain ⟨h0, h1, h2⟩ := h
  refine ⟨by rw [f1 0 (by omega), h0], ?_, ?_⟩
  · intro q hq1 hq2
    by_cases e : q = m + 1
    · rw [e]
      omega
    · rw [f1 q (by omega)]
      exact h1 q hq1 (by omega)
  · intro q a hq ha
    by_cases e : q = m
    · rw [e, f1 m (Nat.le_refl m)]
      by_cases z : m = 0
      · have hf : f m = m := by rw [z, h0]
        have g := t3 z a
        rw [hf]
        exact ⟨by omega, by omega, Or.inl rfl⟩
      · have g1 := h1 m (by omega) (Nat.le_refl m)
        have g2 := h2 (f m) a g1 ha
        have g3 := t1 (f m) a g1
        have g := t4 (by omega) a
        exact ⟨by omega, by omega, Or.inl (by rw [g, g3])⟩
    · have g := h2 q a (by omega) ha
      have e2 := hle q (by omega)
      rw [t1 q a (by omega), f1 q (by omega), t1 (f q) a (by omega), f1 (T q a) (by omega)]
      exact g
/-! ### one cell of the tables: word of l symbols read in state s: the state e after it, c matches, the first ends behind f symbols, the last behind g -/
def cs_C (m s l e c f g : Nat) : Prop := e ≤ m ∧ e ≤ s + l ∧ c ≤ l ∧ (c = 0 → f = 0 ∧ g = 0) ∧ (1 ≤ c → 1 ≤ f ∧ f ≤ g ∧ g ≤ l ∧ m ≤ s + f ∧ (f = g ↔ c = 1))
theorem cs_C_hit {m s l e c f g : Nat} (h : cs_C m s l e c f g) (he : m ≤ e + 1) : cs_C m s (l + 1) m (c + 1) (if f = 0 then l + 1 else f) (l + 1) := by
  obtain ⟨h1, h2, h3, h4, h5⟩ := h
  by_cases z : c = 0
  · obtain ⟨z1, z2⟩ := h4 z
    rw [if_pos z1]
    exact ⟨by omega, by omega, by omega, fun z => absurd z (by omega), fun _ => ⟨by omega, by omega, by omega, by omega, by omega⟩⟩
  · obtain ⟨z1, z2, z3, z4, z5⟩ := h5 (by omega)
    rw [if_neg (by omega)]
    exact ⟨by omega, by omega, by omega, fun z => absurd z (by omega), fun _ => ⟨by omega, by omega, by omega, by omega, by omega⟩⟩
theorem cs_C_miss {m s l e c f g e' : Nat} (h : cs_C m s l e c f g) (he : e' ≤ e + 1) (hm : e' ≤ m) : cs_C m s (l + 1) e' c f g := by
  obtain ⟨h1, h2, h3, h4, h5⟩ := h
  refine ⟨by omega, by omega, by omega, h4, fun z => ?_⟩
  obtain ⟨z1, z2, z3, z4, z5⟩ := h5 z
  exact ⟨by omega, by omega, by omega, by omega, by omega⟩
theorem cs_C_0 {m s : Nat} (h : s ≤ m) : cs_C m s 0 s 0 0 0 := ⟨h, by omega, by omega, fun _ => ⟨rfl, rfl⟩, fun z => absurd z (by omega)⟩
end
section
/-! ### buildMachine -/
theorem cs_bm35 {post : St1 → Prop} {J : Int32 → Int32 → (Nat → Int32) → (Nat → Int32) → (Nat → Int32) → (Nat → Int32) → (Nat → Int32) → (Nat → Int32) → (Nat → Int32) → (Nat → Int32) → (Nat → Int32) → (Nat → Int32) → (Nat → Int32) → Prop}
    {fw fk ft fd fn fe fc ff fl fi : Int32} {a1 a2 a3 a4 a5 a6 a7 a8 a9 a10 a11 : Nat → Int32} {m s b : Nat} {T : Nat → Nat → Nat} (x : Nat) (hm : m ≤ 6) (hs : s ≤ m) (hb0 : s = 0 → b = 0) (hb : 0 < s → b < s)
    (hx : s < m → x < 4 ∧ a6 s = nI x) (hT : ∀ q a, q < s → a < 4 → a7 (q * 4 + a) = nI (T q a)) (hTb : ∀ q a, q < s → a < 4 → T q a < 128)
    (HA : s = m → ∀ z, (∀ q a, q < s → a < 4 → z (q * 4 + a) = nI (T q a)) → (∀ a, a < 4 → z (s * 4 + a) = nI (if s = 0 then 0 else T b a)) → J (nI b) (nI (s + 1)) a1 a2 a3 a4 a5 a6 z a8 a9 a10 a11)
    (HB : s < m → ∀ z, (∀ q a, q < s → a < 4 → z (q * 4 + a) = nI (T q a)) → z (s * 4 + x) = nI (s + 1) → (∀ a, a < 4 → a ≠ x → z (s * 4 + a) = nI (if s = 0 then 0 else T b a)) → J (nI (if s = 0 then 0 else T b x)) (nI (s + 1)) a1 a2 a3 a4 a5 a6 z a8 a9 a10 a11) :
    ∃ n, wX_buildMachine_35 post J (nI b) (nI s) fw fk ft (nI m) fd fn fe fc ff fl fi n 0 a1 a2 a3 a4 a5 a6 a7 a8 a9 a10 a11 := by
  refine pk_loop (fun n i z => wX_buildMachine_35 post J (nI b) (nI s) fw fk ft (nI m) fd fn fe fc ff fl fi n (nI i) a1 a2 a3 a4 a5 a6 z a8 a9 a10 a11) (fun i z => (∀ q a, q < s → a < 4 → z (q * 4 + a) = nI (T q a)) ∧ (∀ a, a < i → z (s * 4 + a) = nI (if s = 0 then 0 else T b a))) 4 0 a7 (by omega) ⟨hT, fun a h => absurd h (by omega)⟩ ?_ ?_
  · intro n z h
    obtain ⟨h1, h2⟩ := h
    refine pk_le 4 4 (fun _ => pk_le m s (fun g => nm_r (nI_1 s) (HA (by omega) z h1 h2)) (fun g => ?_)) (fun z => absurd z (by omega))
    obtain ⟨x4, x6⟩ := hx g
    have e1 : a6 (nI s).toNatClampNeg = nI x := by rw [nI_clamp (by omega)]; exact x6
    have e2 : nI b * 4 + a6 (nI s).toNatClampNeg = nI (b * 4 + x) := by rw [e1, cs_ix4]
    have e3 : nI s * 4 + a6 (nI s).toNatClampNeg = nI (s * 4 + x) := by rw [e1, cs_ix4]
    have hb' : b ≤ s := by
      by_cases z : s = 0
      · have := hb0 z; omega
      · have := hb (by omega); omega
    have e4 : z (nI b * 4 + a6 (nI s).toNatClampNeg).toNatClampNeg = nI (if s = 0 then 0 else T b x) := by
      rw [e2, nI_clamp (by omega)]
      by_cases c : s = 0
      · have g1 := h2 x x4
        rw [if_pos c] at g1 ⊢
        rw [hb0 c]
        rw [c] at g1
        exact g1
      · rw [if_neg c]
        exact h1 b x (hb (by omega)) x4
    have e5 : upd z (nI s * 4 + a6 (nI s).toNatClampNeg).toNatClampNeg ((nI s + 1).toInt8.toInt32) = upd z (s * 4 + x) (nI (s + 1)) := by
      rw [e3, nI_clamp (by omega), nI_1, cs_b8 _ (by omega)]
    have k1 : ∀ q a, q < s → a < 4 → upd z (s * 4 + x) (nI (s + 1)) (q * 4 + a) = nI (T q a) := by
      intro q a hq ha
      rw [pk_un (by omega)]
      exact h1 q a hq ha
    have k2 : ∀ a, a < 4 → a ≠ x → upd z (s * 4 + x) (nI (s + 1)) (s * 4 + a) = nI (if s = 0 then 0 else T b a) := by
      intro a ha hax
      rw [pk_un (by omega)]
      exact h2 a ha
    have key := HB g (upd z (s * 4 + x) (nI (s + 1))) k1 pk_us k2
    refine ⟨pk_in s 6 (by omega), pk_in (b * 4 + x) 28 (by omega) e2, nm_r e4 ⟨pk_in s 6 (by omega), pk_in (s * 4 + x) 28 (by omega) e3, nm_r e5 ?_⟩⟩
    refine pk_eq s 0 (fun c => nm_r (nI_1 s) ?_) (fun c => nm_r (nI_1 s) key)
    rw [if_pos c] at key
    exact key
  · intro n i z hi h hw
    obtain ⟨h1, h2⟩ := h
    refine pk_le 4 i (fun c => absurd c (by omega)) (fun _ => pk_eq s 0 (fun c => ?_) (fun c => ?_))
    · have e3 : nI s * 4 + nI i = nI (s * 4 + i) := cs_ix4 s i
      refine ⟨pk_in (s * 4 + i) 28 (by omega) e3, nm_r (e' := upd z (s * 4 + i) (nI 0)) (by rw [e3, nI_clamp (by omega), nI_0]) (nm_r (nI_1 i) (hw _ ⟨?_, ?_⟩))⟩
      · intro q a hq ha
        exact absurd hq (by omega)
      · intro a ha
        by_cases ea : a = i
        · rw [ea, pk_us, if_pos c]
        · rw [pk_un (by omega)]
          exact h2 a (by omega)
    · have hbs := hb (by omega)
      have e2 : nI b * 4 + nI i = nI (b * 4 + i) := cs_ix4 b i
      have e3 : nI s * 4 + nI i = nI (s * 4 + i) := cs_ix4 s i
      have e4 : z (nI b * 4 + nI i).toNatClampNeg = nI (T b i) := by
        rw [e2, nI_clamp (by omega)]
        exact h1 b i hbs hi
      refine ⟨pk_in (b * 4 + i) 28 (by omega) e2, pk_in (s * 4 + i) 28 (by omega) e3, nm_r (e' := upd z (s * 4 + i) (nI (T b i))) (by rw [e4, e3, nI_clamp (by omega), cs_nb (hTb b i hbs hi)]) (nm_r (nI_1 i) (hw _ ⟨?_, ?_⟩))⟩
      · intro q a hq ha
        rw [pk_un (by omega)]
        exact h1 q a hq ha
      · intro a ha
        by_cases ea : a = i
        · rw [ea, pk_us, if_neg c]
        · rw [pk_un (by omega)]
          exact h2 a (by omega)
theorem cs_bm25 {post : St1 → Prop} {fw fk ft fd fn fe fc ff fl fi : Int32} {a1 a2 a3 a4 a5 a6 a7 a8 a9 a10 a11 : Nat → Int32} {m : Nat} (hm : m ≤ 6) (h6 : ∀ j, j < m → ∃ x, x < 4 ∧ a6 j = nI x)
    (H : ∀ z R T, cs_M m R T z → post (fw, fk, ft, nI m, fd, fn, fe, fc, ff, fl, fi, a1, a2, a3, a4, a5, a6, z, a8, a9, a10, a11)) : ∃ n, wX_buildMachine_25 post fw fk ft (nI m) fd fn fe fc ff fl fi n 0 0 a1 a2 a3 a4 a5 a6 a7 a8 a9 a10 a11 := by
  refine pk_loop (σ := Nat × (Nat → Int32)) (fun n i s => wX_buildMachine_25 post fw fk ft (nI m) fd fn fe fc ff fl fi n (nI s.1) (nI i) a1 a2 a3 a4 a5 a6 s.2 a8 a9 a10 a11) (fun i s => ∃ T f, cs_mac m i T f ∧ (i ≤ m → s.1 = f i) ∧ (∀ q a, q < i → a < 4 → s.2 (q * 4 + a) = nI (T q a))) (m + 1) 0 (0, a7) (by omega) ⟨fun _ _ => 0, fun _ => 0, ⟨rfl, fun q h1 h2 => absurd h1 (by omega), fun q a h => absurd h (by omega)⟩, fun _ => rfl, fun q a h => absurd h (by omega)⟩ ?_ ?_
  · intro n s h
    obtain ⟨T, f, hM, _, hT⟩ := h
    exact pk_lt m (m + 1) (fun _ => H s.2 (cs_R f) T (cs_mac_M hM hT)) (fun z => absurd z (by omega))
  · intro n i s hi h hw
    obtain ⟨b, z⟩ := s
    obtain ⟨T, f, hM, hb, hT⟩ := h
    have hb' : b = f i := hb (by omega)
    have hM' := hM
    obtain ⟨h0, h1, h2⟩ := hM'
    have hx : ∃ x, i < m → x < 4 ∧ a6 i = nI x := by
      by_cases c : i < m
      · obtain ⟨x, hx⟩ := h6 i c
        exact ⟨x, fun _ => hx⟩
      · exact ⟨0, fun c' => absurd c' c⟩
    obtain ⟨x, hx⟩ := hx
    refine pk_lt m i (fun c => absurd c (by omega)) (fun _ => cs_bm35 (T := T) x hm (by omega) (fun c => ?_) (fun c => ?_) hx hT (fun q a hq ha => ?_) (fun c y y1 y2 => ?_) (fun c y y1 y2 y3 => ?_))
    · rw [hb', c, h0]
    · rw [hb']
      exact h1 i (by omega) (Nat.le_refl i)
    · have := (h2 q a hq ha).1
      omega
    · refine hw (b, y) ⟨fun q a => if q = m then (if m = 0 then 0 else T (f m) a) else T q a, fun q => if q = m + 1 then 0 else f q, ?_, fun c' => absurd c' (by omega), ?_⟩
      · rw [c] at hM ⊢
        refine cs_mac_last hM (fun q a hq => if_neg (by omega)) (fun z a => ?_) (fun z a => ?_) (fun q hq => if_neg (by omega)) (if_pos rfl)
        · rw [if_pos rfl, if_pos z]
        · rw [if_pos rfl, if_neg (by omega)]
      · intro q a hq ha
        dsimp only
        by_cases e : q = m
        · rw [if_pos e, e, ← c, y2 a ha, hb']
        · rw [if_neg e]
          exact y1 q a (by omega) ha
    · refine hw (if i = 0 then 0 else T b x, y) ⟨fun q a => if q = i then (if a = x then i + 1 else if i = 0 then 0 else T (f i) a) else T q a, fun q => if q = i + 1 then (if i = 0 then 0 else T (f i) x) else f q, ?_, fun c' => ?_, ?_⟩
      · refine cs_mac_next hM c (hx c).1 (fun q a hq => if_neg (by omega)) ?_ (fun z a hax => ?_) (fun z a hax => ?_) (fun q hq => if_neg (by omega)) (fun z => ?_) (fun z => ?_)
        · rw [if_pos rfl, if_pos rfl]
        · rw [if_pos rfl, if_neg hax, if_pos z]
        · rw [if_pos rfl, if_neg hax, if_neg (by omega)]
        · rw [if_pos rfl, if_pos z]
        · rw [if_pos rfl, if_neg (by omega)]
      · dsimp only
        rw [if_pos rfl, hb']
      · intro q a hq ha
        dsimp only
        by_cases e : q = i
        · rw [if_pos e, e]
          by_cases ea : a = x
          · rw [if_pos ea, ea, y2]
          · rw [if_neg ea, y3 a ha ea, hb']
        · rw [if_neg e]
          exact y1 q a (by omega) ha
theorem cs_bm {post : St1 → Prop} {fw fk ft fd fn fe fc ff fl fi : Int32} {a1 a2 a3 a4 a5 a6 a7 a8 a9 a10 a11 : Nat → Int32} {m : Nat} (hm : m ≤ 6) (h6 : ∀ j, j < m → ∃ x, x < 4 ∧ a6 j = nI x)
    (H : ∀ z R T, cs_M m R T z → post (fw, fk, ft, nI m, fd, fn, fe, fc, ff, fl, fi, a1, a2, a3, a4, a5, a6, z, a8, a9, a10, a11)) : wpX_buildMachine post (fw, fk, ft, nI m, fd, fn, fe, fc, ff, fl, fi, a1, a2, a3, a4, a5, a6, a7, a8, a9, a10, a11) := by
  unfold wpX_buildMachine
  refine pk_loop (fun n i z => wX_buildMachine_2 post fw fk ft (nI m) fd fn fe fc ff fl fi n (nI i) a1 a2 a3 a4 a5 a6 z a8 a9 a10 a11) (fun _ _ => True) 28 0 a7 (by omega) trivial ?_ ?_
  · intro n z _
    exact pk_le 28 28 (fun _ => cs_bm25 hm h6 H) (fun z => absurd z (by omega))
  · intro n i z hi _ hw
    exact pk_le 28 i (fun c => absurd c (by omega)) (fun _ => ⟨pk_in i 28 hi, nm_e (nm_r (nI_1 i) (hw _ trivial))⟩)
end
section
/-! ### the state: words, tables, codes -/
/-- n words: last and first symbol, the length l + 1, the word without its last symbol -/
def cs_W (n : Nat) (a1 a2 a3 a4 : Nat → Int32) : Prop := 4 ≤ n ∧ n ≤ 60 ∧ ∀ w, w < n → ∃ x y l : Nat, x < 4 ∧ a2 w = nI x ∧ y < 4 ∧ a3 w = nI y ∧ l ≤ w ∧ a4 w = nI (l + 1) ∧ ((a1 w = -1 ∧ l = 0) ∨ ∃ v, v < w ∧ a1 w = nI v ∧ 1 ≤ l ∧ a4 v = nI l)
/-- the tables' cell of word w, state s; e0, k0: the same word's cell of state 0 -/
def cs_cell (R : Nat → Nat → Prop) (m w s : Nat) (a4 a8 a9 a10 a11 : Nat → Int32) : Prop := ∃ l e c f g e0 k0 : Nat, a4 w = nI l ∧ l ≤ 60 ∧ a8 (w * 7 + s) = nI e ∧ a9 (w * 7 + s) = nI c ∧ a10 (w * 7 + s) = nI f ∧ a11 (w * 7 + s) = nI g ∧ cs_C m s l e c f g ∧ a8 (w * 7) = nI e0 ∧ a9 (w * 7) = nI k0 ∧ R e0 e ∧ k0 ≤ c ∧ e0 ≤ m
def cs_D (R : Nat → Nat → Prop) (m d : Nat) (a4 a8 a9 a10 a11 : Nat → Int32) : Prop := ∀ w s, w < d → s ≤ m → cs_cell R m w s a4 a8 a9 a10 a11
def cs_pl (a4 a5 : Nat → Int32) : Nat → Nat
  | 0 => 0
  | j + 1 => cs_pl a4 a5 j + (a4 (a5 j).toNatClampNeg).toNatClampNeg
/-- the state but for a scan's answers -/
def cs_I (n k t m d : Nat) (a1 a2 a3 a4 a5 a6 a7 a8 a9 a10 a11 : Nat → Int32) : Prop :=
  cs_W n a1 a2 a3 a4 ∧ (m ≤ 6 ∧ ∀ j, j < m → ∃ x, x < 4 ∧ a6 j = nI x) ∧
  (d ≤ n ∧ (0 < d → ∃ R T, cs_M m R T a7 ∧ cs_D R m d a4 a8 a9 a10 a11)) ∧
  (k ≤ 250 ∧ t ≤ 250 ∧ (∀ j, j < k → ∃ c, c < n ∧ a5 j = nI c) ∧ t = cs_pl a4 a5 k)
/-- what the word without its last symbol gives in state s -/
def cs_pre (a1 a8 a9 a10 a11 : Nat → Int32) (w s st c f g : Nat) : Prop := st < 128 ∧ c < 128 ∧ f < 128 ∧ g < 128 ∧ ((a1 w = -1 ∧ st = s ∧ c = 0 ∧ f = 0 ∧ g = 0) ∨ ∃ v, v < w ∧ a1 w = nI v ∧ a8 (v * 7 + s) = nI st ∧ a9 (v * 7 + s) = nI c ∧ a10 (v * 7 + s) = nI f ∧ a11 (v * 7 + s) = nI g)
theorem cs_pre_uniq {a1 a8 a9 a10 a11 : Nat → Int32} {w s st c f g st' c' f' g' : Nat} (hw : w < 60) (h : cs_pre a1 a8 a9 a10 a11 w s st c f g) (h' : cs_pre a1 a8 a9 a10 a11 w s st' c' f' g') : st = st' ∧ c = c' := by
  obtain ⟨b1, b2, b3, b4, h⟩ := h
  obtain ⟨d1, d2, d3, d4, h'⟩ := h'
  rcases h with ⟨p1, p2, p3, p4, p5⟩ | ⟨v, p0, p1, p2, p3, p4, p5⟩
  · rcases h' with ⟨q1, q2, q3, q4, q5⟩ | ⟨v', q0, q1, q2, q3, q4, q5⟩
    · exact ⟨by omega, by omega⟩
    · rw [p1] at q1
      exact absurd q1.symm (cs_m1 (by omega))
  · rcases h' with ⟨q1, q2, q3, q4, q5⟩ | ⟨v', q0, q1, q2, q3, q4, q5⟩
    · rw [p1] at q1
      exact absurd q1 (cs_m1 (by omega))
    · rw [p1] at q1
      have e := cs_inj q1 (by omega) (by omega)
      rw [← e] at q2 q3
      rw [p2] at q2
      rw [p3] at q3
      exact ⟨cs_inj q2 (by omega) (by omega), cs_inj q3 (by omega) (by omega)⟩
theorem cs_C_b {m s l e c f g : Nat} (h : cs_C m s l e c f g) : f ≤ l ∧ g ≤ l := by
  obtain ⟨h1, h2, h3, h4, h5⟩ := h
  by_cases z : c = 0
  · obtain ⟨z1, z2⟩ := h4 z
    exact ⟨by omega, by omega⟩
  · obtain ⟨z1, z2, z3, _⟩ := h5 (by omega)
    exact ⟨by omega, by omega⟩
theorem cs_pre_ok {R : Nat → Nat → Prop} {T : Nat → Nat → Nat} {m w l s : Nat} {a1 a4 a7 a8 a9 a10 a11 : Nat → Int32} (hm : m ≤ 6) (hw : w < 60) (hl : l ≤ w) (hs : s ≤ m)
    (hp : (a1 w = -1 ∧ l = 0) ∨ ∃ v, v < w ∧ a1 w = nI v ∧ 1 ≤ l ∧ a4 v = nI l) (hM : cs_M m R T a7) (hD : cs_D R m w a4 a8 a9 a10 a11) :
    ∃ st c f g, cs_pre a1 a8 a9 a10 a11 w s st c f g ∧ cs_C m s l st c f g ∧ ∀ st0 c0 f0 g0, cs_pre a1 a8 a9 a10 a11 w 0 st0 c0 f0 g0 → R st0 st ∧ c0 ≤ c := by
  obtain ⟨m1, m2, m3, m4, m5⟩ := hM
  rcases hp with ⟨p1, p2⟩ | ⟨v, p0, p1, p2, p3⟩
  · refine ⟨s, 0, 0, 0, ⟨by omega, by omega, by omega, by omega, Or.inl ⟨p1, rfl, rfl, rfl, rfl⟩⟩, ?_, ?_⟩
    · rw [p2]
      exact cs_C_0 hs
    · intro st0 c0 f0 g0 h
      have h' : cs_pre a1 a8 a9 a10 a11 w 0 0 0 0 0 := ⟨by omega, by omega, by omega, by omega, Or.inl ⟨p1, rfl, rfl, rfl, rfl⟩⟩
      obtain ⟨e1, e2⟩ := cs_pre_uniq hw h h'
      rw [e1, e2]
      exact ⟨m3 s hs, Nat.le_refl 0⟩
  · obtain ⟨l', e, c, f, g, e0, k0, c1, c2, c3, c4, c5, c6, c7, c8, c9, c10, c11, c12⟩ := hD v s p0 hs
    rw [p3] at c1
    have el := cs_inj c1 (by omega) (by omega)
    rw [← el] at c7
    obtain ⟨b1, b2⟩ := cs_C_b c7
    have b3 := c7.1
    have b4 := c7.2.2.1
    refine ⟨e, c, f, g, ⟨by omega, by omega, by omega, by omega, Or.inr ⟨v, p0, p1, c3, c4, c5, c6⟩⟩, c7, ?_⟩
    intro st0 c0 f0 g0 h
    obtain ⟨d1, d2, d3, d4, h⟩ := h
    rcases h with ⟨q1, _⟩ | ⟨v', q0, q1, q2, q3, _⟩
    · rw [p1] at q1
      exact absurd q1 (cs_m1 (by omega))
    · rw [p1] at q1
      have ev := cs_inj q1 (by omega) (by omega)
      rw [← ev, Nat.add_zero] at q2 q3
      rw [c8] at q2
      rw [c9] at q3
      rw [← cs_inj q2 (by omega) (by omega), ← cs_inj q3 (by omega) (by omega)]
      exact ⟨c10, c11⟩
/-! ### fillCell -/
theorem cs_fc129 {post : St1 → Prop} {fw fk ft fm fd fn fe fc ff fl fi : Int32} {a1 a2 a3 a4 a5 a6 a7 a8 a9 a10 a11 : Nat → Int32} {x c f g e : Nat} (hx : x < 420) (hc : c < 128) (hf : f < 128) (hg : g < 128) (he : e < 128)
    (H : post (fw, fk, ft, fm, fd, fn, fe, fc, ff, fl, fi, a1, a2, a3, a4, a5, a6, a7, upd a8 x (nI e), upd a9 x (nI c), upd a10 x (nI f), upd a11 x (nI g))) :
    wX_fillCell_129 post (nI x) (nI c) (nI f) (nI g) (nI e) fw fk ft fm fd fn fe fc ff fl fi a1 a2 a3 a4 a5 a6 a7 a8 a9 a10 a11 := by
  unfold wX_fillCell_129
  refine ⟨pk_in x 420 hx, nm_r (e' := upd a8 x (nI e)) (by rw [nI_clamp (by omega), cs_b8 _ he]) ⟨pk_in x 420 hx, nm_r (e' := upd a9 x (nI c)) (by rw [nI_clamp (by omega), cs_s16 _ (by omega)]) ⟨pk_in x 420 hx, nm_r (e' := upd a10 x (nI f)) (by rw [nI_clamp (by omega), cs_s16 _ (by omega)]) ⟨pk_in x 420 hx, nm_r (e' := upd a11 x (nI g)) (by rw [nI_clamp (by omega), cs_s16 _ (by omega)]) H⟩⟩⟩⟩
theorem cs_fc77 {post : St1 → Prop} {fw fk ft fd fn fe fc ff fl fi : Int32} {a1 a2 a3 a4 a5 a6 a7 a8 a9 a10 a11 : Nat → Int32} {m w y x l st c f g e : Nat} (hw : w < 60) (hm : m ≤ 6) (hy : y < 420)
    (hc : c < 100) (hf : f < 100) (hg : g < 100) (h2 : a2 w = nI x) (hx : x < 4) (h4 : a4 w = nI l) (hl : l ≤ 60) (h7 : a7 (st * 4 + x) = nI e) (he : e ≤ m) (hst : st ≤ m)
    (H1 : e = m → post (fw, fk, ft, nI m, fd, fn, fe, fc, ff, fl, fi, a1, a2, a3, a4, a5, a6, a7, upd a8 y (nI e), upd a9 y (nI (c + 1)), upd a10 y (nI (if f = 0 then l else f)), upd a11 y (nI l)))
    (H2 : e ≠ m → post (fw, fk, ft, nI m, fd, fn, fe, fc, ff, fl, fi, a1, a2, a3, a4, a5, a6, a7, upd a8 y (nI e), upd a9 y (nI c), upd a10 y (nI f), upd a11 y (nI g))) :
    wX_fillCell_77 post (nI w) (nI y) (nI st) (nI c) (nI f) (nI g) fw fk ft (nI m) fd fn fe fc ff fl fi a1 a2 a3 a4 a5 a6 a7 a8 a9 a10 a11 := by
  unfold wX_fillCell_77
  have e1 : a2 (nI w).toNatClampNeg = nI x := by rw [nI_clamp (by omega)]; exact h2
  have e2 : nI st * 4 + a2 (nI w).toNatClampNeg = nI (st * 4 + x) := by rw [e1, cs_ix4]
  have e3 : a7 (nI st * 4 + a2 (nI w).toNatClampNeg).toNatClampNeg = nI e := by rw [e2, nI_clamp (by omega)]; exact h7
  have e4 : a4 (nI w).toNatClampNeg = nI l := by rw [nI_clamp (by omega)]; exact h4
  refine ⟨pk_in w 60 hw, pk_in (st * 4 + x) 28 (by omega) e2, nm_r e3 (pk_eq e m (fun z => nm_r (nI_1 c) ⟨pk_in w 60 hw, nm_r e4 (pk_eq f 0 (fun z' => ?_) (fun z' => ?_))⟩) (fun z => ?_))⟩
  · unfold wX_fillCell_127
    have h := H1 z
    rw [if_pos z'] at h
    exact cs_fc129 hy (by omega) (by omega) (by omega) (by omega) h
  · unfold wX_fillCell_127
    have h := H1 z
    rw [if_neg z'] at h
    exact cs_fc129 hy (by omega) (by omega) (by omega) (by omega) h
  · exact cs_fc129 hy (by omega) (by omega) (by omega) (by omega) (H2 z)
theorem cs_fc {post : St1 → Prop} {fw fk ft fd fn fe fc ff fl fi : Int32} {a1 a2 a3 a4 a5 a6 a7 a8 a9 a10 a11 : Nat → Int32} {m w s x l st c f g e : Nat} (hw : w < 60) (hm : m ≤ 6) (hs : s ≤ m) (hp : cs_pre a1 a8 a9 a10 a11 w s st c f g)
    (hc : c < 100) (hf : f < 100) (hg : g < 100) (h2 : a2 w = nI x) (hx : x < 4) (h4 : a4 w = nI l) (hl : l ≤ 60) (h7 : a7 (st * 4 + x) = nI e) (he : e ≤ m) (hst : st ≤ m)
    (H1 : e = m → post (fw, fk, ft, nI m, fd, fn, fe, fc, ff, fl, fi, a1, a2, a3, a4, a5, a6, a7, upd a8 (w * 7 + s) (nI e), upd a9 (w * 7 + s) (nI (c + 1)), upd a10 (w * 7 + s) (nI (if f = 0 then l else f)), upd a11 (w * 7 + s) (nI l)))
    (H2 : e ≠ m → post (fw, fk, ft, nI m, fd, fn, fe, fc, ff, fl, fi, a1, a2, a3, a4, a5, a6, a7, upd a8 (w * 7 + s) (nI e), upd a9 (w * 7 + s) (nI c), upd a10 (w * 7 + s) (nI f), upd a11 (w * 7 + s) (nI g))) :
    wpX_fillCell post (fw, fk, ft, nI m, fd, fn, fe, fc, ff, fl, fi, a1, a2, a3, a4, a5, a6, a7, a8, a9, a10, a11) (nI w) (nI s) := by
  unfold wpX_fillCell
  obtain ⟨_, _, _, _, hp⟩ := hp
  have key := cs_fc77 (y := w * 7 + s) hw hm (by omega) hc hf hg h2 hx h4 hl h7 he hst H1 H2
  refine nm_r (cs_ix7 w s) ⟨pk_in w 60 hw, ?_⟩
  rcases hp with ⟨p1, p2, p3, p4, p5⟩ | ⟨v, p0, p1, p2, p3, p4, p5⟩
  · refine br_t (by rw [nI_clamp (by omega), p1]; decide) ?_
    rw [p2, p3, p4, p5] at key
    exact key
  · have e1 : a1 (nI w).toNatClampNeg = nI v := by rw [nI_clamp (by omega)]; exact p1
    have e2 : (nI (v * 7 + s)).toNatClampNeg = v * 7 + s := nI_clamp (by omega)
    refine br_f (by rw [e1]; exact nI_pos (by omega)) ⟨pk_in w 60 hw, nm_r (e' := nI (v * 7 + s)) (by rw [e1, cs_ix7]) ⟨pk_in (v * 7 + s) 420 (by omega), nm_r (e' := nI st) (by rw [e2, p2]) ⟨pk_in (v * 7 + s) 420 (by omega), nm_r (e' := nI c) (by rw [e2, p3]) ⟨pk_in (v * 7 + s) 420 (by omega), nm_r (e' := nI f) (by rw [e2, p4]) ⟨pk_in (v * 7 + s) 420 (by omega), nm_r (e' := nI g) (by rw [e2, p5]) key⟩⟩⟩⟩⟩
/-! ### fillTables -/
theorem cs_cell_up {R : Nat → Nat → Prop} {m w s x : Nat} {a4 z8 z9 z10 z11 : Nat → Int32} {E C F G : Int32} (h : cs_cell R m w s a4 z8 z9 z10 z11) (h1 : w * 7 + s ≠ x) (h2 : w * 7 ≠ x) : cs_cell R m w s a4 (upd z8 x E) (upd z9 x C) (upd z10 x F) (upd z11 x G) := by
  obtain ⟨l, e, c, f, g, e0, k0, c1, c2, c3, c4, c5, c6, c7, c8, c9, c10, c11, c12⟩ := h
  exact ⟨l, e, c, f, g, e0, k0, c1, c2, by rw [pk_un h1]; exact c3, by rw [pk_un h1]; exact c4, by rw [pk_un h1]; exact c5, by rw [pk_un h1]; exact c6, c7, by rw [pk_un h2]; exact c8, by rw [pk_un h2]; exact c9, c10, c11, c12⟩
/-- the inner loop: the words below w, and of word w the states below i -/
def cs_N (R : Nat → Nat → Prop) (m w i st0 c0 e0 k0 : Nat) (a1 a4 z8 z9 z10 z11 : Nat → Int32) : Prop := (∃ f g, cs_pre a1 z8 z9 z10 z11 w 0 st0 c0 f g) ∧ cs_D R m w a4 z8 z9 z10 z11 ∧ (∀ s, s < i → cs_cell R m w s a4 z8 z9 z10 z11) ∧ (0 < i → z8 (w * 7) = nI e0 ∧ z9 (w * 7) = nI k0)
theorem cs_N_put {R : Nat → Nat → Prop} {m w i st0 c0 e0 k0 l E C F G : Nat} {a1 a4 z8 z9 z10 z11 : Nat → Int32} (hm : m ≤ 6) (hi : i ≤ m) (h4 : a4 w = nI l) (hl : l ≤ 60) (h : cs_N R m w i st0 c0 e0 k0 a1 a4 z8 z9 z10 z11)
    (hC : cs_C m i l E C F G) (hR : R e0 E) (hk : k0 ≤ C) (he : e0 ≤ m) (h0 : i = 0 → E = e0 ∧ C = k0) :
    cs_N R m w (i + 1) st0 c0 e0 k0 a1 a4 (upd z8 (w * 7 + i) (nI E)) (upd z9 (w * 7 + i) (nI C)) (upd z10 (w * 7 + i) (nI F)) (upd z11 (w * 7 + i) (nI G)) := by
  obtain ⟨⟨f, g, b1, b2, b3, b4, I1⟩, I2, I3, I4⟩ := h
  have k1 : upd z8 (w * 7 + i) (nI E) (w * 7) = nI e0 := by
    by_cases z : i = 0
    · have e : w * 7 + i = w * 7 := by omega
      rw [e, pk_us, (h0 z).1]
    · rw [pk_un (by omega)]
      exact (I4 (by omega)).1
  have k2 : upd z9 (w * 7 + i) (nI C) (w * 7) = nI k0 := by
    by_cases z : i = 0
    · have e : w * 7 + i = w * 7 := by omega
      rw [e, pk_us, (h0 z).2]
    · rw [pk_un (by omega)]
      exact (I4 (by omega)).2
  refine ⟨⟨f, g, b1, b2, b3, b4, ?_⟩, ?_, ?_, fun _ => ⟨k1, k2⟩⟩
  · rcases I1 with p | ⟨v, p0, p1, p2, p3, p4, p5⟩
    · exact Or.inl p
    · have hv : v * 7 + 0 ≠ w * 7 + i := by omega
      exact Or.inr ⟨v, p0, p1, by rw [pk_un hv]; exact p2, by rw [pk_un hv]; exact p3, by rw [pk_un hv]; exact p4, by rw [pk_un hv]; exact p5⟩
  · intro w' s hw' hs
    exact cs_cell_up (I2 w' s hw' hs) (by omega) (by omega)
  · intro s hs
    by_cases z : s = i
    · rw [z]
      exact ⟨l, E, C, F, G, e0, k0, h4, hl, pk_us, pk_us, pk_us, pk_us, hC, k1, k2, hR, hk, he⟩
    · exact cs_cell_up (I3 s (by omega)) (by omega) (by omega)
theorem cs_ft26 {post : St1 → Prop} {J : Int32 → Int32 → Int32 → Int32 → Int32 → Int32 → Int32 → Int32 → Int32 → Int32 → Int32 → Int32 → (Nat → Int32) → (Nat → Int32) → (Nat → Int32) → (Nat → Int32) → (Nat → Int32) → (Nat → Int32) → (Nat → Int32) → (Nat → Int32) → (Nat → Int32) → (Nat → Int32) → (Nat → Int32) → Prop}
    {fw fk ft fd fn fe fc ff fl fi : Int32} {a1 a2 a3 a4 a5 a6 a7 a8 a9 a10 a11 : Nat → Int32} {n m w : Nat} {R : Nat → Nat → Prop} {T : Nat → Nat → Nat} (hW : cs_W n a1 a2 a3 a4) (hm : m ≤ 6) (hw : w < n) (hM : cs_M m R T a7) (hD : cs_D R m w a4 a8 a9 a10 a11)
    (H : ∀ z8 z9 z10 z11, cs_D R m (w + 1) a4 z8 z9 z10 z11 → J (nI (w + 1)) fw fk ft (nI m) fd fn fe fc ff fl fi a1 a2 a3 a4 a5 a6 a7 z8 z9 z10 z11) :
    ∃ fu, wX_fillTables_26 post J (nI w) fu 0 fw fk ft (nI m) fd fn fe fc ff fl fi a1 a2 a3 a4 a5 a6 a7 a8 a9 a10 a11 := by
  obtain ⟨hn4, hn, hW⟩ := hW
  obtain ⟨x, y, l, hx, h2, hy, h3, hl, h4, hp⟩ := hW w hw
  obtain ⟨st0, c0, f0, g0, q1, q2, q3⟩ := cs_pre_ok hm (by omega) hl (Nat.zero_le m) hp hM hD
  have hM' := hM
  obtain ⟨m1, m2, m3, m4, m5⟩ := hM'
  have hst0 : st0 ≤ m := q2.1
  have he0 : T st0 x ≤ m := (m1 st0 x hst0 hx).2.1
  refine pk_loop (σ := (Nat → Int32) × (Nat → Int32) × (Nat → Int32) × (Nat → Int32)) (fun fu i z => wX_fillTables_26 post J (nI w) fu (nI i) fw fk ft (nI m) fd fn fe fc ff fl fi a1 a2 a3 a4 a5 a6 a7 z.1 z.2.1 z.2.2.1 z.2.2.2) (fun i z => cs_N R m w i st0 c0 (T st0 x) (if T st0 x = m then c0 + 1 else c0) a1 a4 z.1 z.2.1 z.2.2.1 z.2.2.2) (m + 1) 0 (a8, a9, a10, a11) (by omega) ⟨⟨f0, g0, q1⟩, hD, fun s h => absurd h (by omega), fun h => absurd h (by omega)⟩ ?_ ?_
  · intro fu z h
    obtain ⟨z8, z9, z10, z11⟩ := z
    obtain ⟨_, I2, I3, _⟩ := h
    refine pk_lt m (m + 1) (fun _ => nm_r (nI_1 w) (H z8 z9 z10 z11 ?_)) (fun c => absurd c (by omega))
    intro w' s hw' hs
    by_cases e : w' = w
    · rw [e]
      exact I3 s (by omega)
    · exact I2 w' s (by omega) hs
  · intro fu i z hi h hk
    obtain ⟨z8, z9, z10, z11⟩ := z
    have h' := h
    obtain ⟨⟨f1, g1, I1⟩, I2, I3, I4⟩ := h'
    obtain ⟨st, c, f, g, r1, r2, r3⟩ := cs_pre_ok hm (by omega) hl (show i ≤ m by omega) hp hM I2
    obtain ⟨r4, r5⟩ := r3 st0 c0 f1 g1 I1
    obtain ⟨r6, r7⟩ := cs_C_b r2
    have hst : st ≤ m := r2.1
    have hcl : c ≤ l := r2.2.2.1
    obtain ⟨t1, t2, t3⟩ := m1 st x hst hx
    have hR : R (T st0 x) (T st x) := m2 st0 st x r4 hst hx
    have hRl := m4 _ _ hR t2
    have huniq : i = 0 → st = st0 ∧ c = c0 := by
      intro z
      rw [z] at r1
      exact cs_pre_uniq (by omega) r1 I1
    refine pk_lt m i (fun c => absurd c (by omega)) (fun _ => cs_fc (l := l + 1) (by omega) hm (by omega) r1 (by omega) (by omega) (by omega) h2 hx h4 (by omega) t1 t2 hst (fun z => ?_) (fun z => ?_))
    · refine nm_r (nI_1 i) (hk (_, _, _, _) (cs_N_put hm (by omega) h4 (by omega) h ?_ hR ?_ he0 ?_))
      · rw [z]
        exact cs_C_hit r2 (by omega)
      · split <;> omega
      · intro z0
        obtain ⟨u1, u2⟩ := huniq z0
        rw [u1] at z ⊢
        rw [if_pos z, u2]
        exact ⟨rfl, rfl⟩
    · refine nm_r (nI_1 i) (hk (_, _, _, _) (cs_N_put hm (by omega) h4 (by omega) h ?_ hR ?_ he0 ?_))
      · exact cs_C_miss r2 t3 t2
      · rw [if_neg (by omega)]
        exact r5
      · intro z0
        obtain ⟨u1, u2⟩ := huniq z0
        rw [u1] at z ⊢
        rw [if_neg z, u2]
        exact ⟨rfl, rfl⟩
theorem cs_ft16 {post : St1 → Prop} {fk ft fd fn fe fc ff fl fi : Int32} {a1 a2 a3 a4 a5 a6 a7 a8 a9 a10 a11 : Nat → Int32} {n m d : Nat} {R : Nat → Nat → Prop} {T : Nat → Nat → Nat} (hW : cs_W n a1 a2 a3 a4) (hm : m ≤ 6) (hd : d ≤ n) (hM : cs_M m R T a7) (hD : cs_D R m d a4 a8 a9 a10 a11)
    (H : ∀ z8 z9 z10 z11, cs_D R m n a4 z8 z9 z10 z11 → post (nI n, fk, ft, nI m, nI n, fn, fe, fc, ff, fl, fi, a1, a2, a3, a4, a5, a6, a7, z8, z9, z10, z11)) :
    ∃ fu, wX_fillTables_16 post fu (nI d) (nI n) fk ft (nI m) fd fn fe fc ff fl fi a1 a2 a3 a4 a5 a6 a7 a8 a9 a10 a11 := by
  have hn : n ≤ 60 := hW.2.1
  refine pk_loop (σ := (Nat → Int32) × (Nat → Int32) × (Nat → Int32) × (Nat → Int32)) (fun fu i z => wX_fillTables_16 post fu (nI i) (nI n) fk ft (nI m) fd fn fe fc ff fl fi a1 a2 a3 a4 a5 a6 a7 z.1 z.2.1 z.2.2.1 z.2.2.2) (fun i z => cs_D R m i a4 z.1 z.2.1 z.2.2.1 z.2.2.2) n d (a8, a9, a10, a11) hd hD ?_ ?_
  · intro fu z h
    obtain ⟨z8, z9, z10, z11⟩ := z
    exact pk_le n n (fun _ => H z8 z9 z10 z11 h) (fun c => absurd c (by omega))
  · intro fu i z hi h hk
    obtain ⟨z8, z9, z10, z11⟩ := z
    exact pk_le n i (fun c => absurd c (by omega)) (fun _ => cs_ft26 hW hm hi hM h (fun y8 y9 y10 y11 hy => hk (y8, y9, y10, y11) hy))
theorem cs_ft {post : St1 → Prop} {fn fe fc ff fl fi : Int32} {a1 a2 a3 a4 a5 a6 a7 a8 a9 a10 a11 : Nat → Int32} {n k t m d : Nat} (hI : cs_I n k t m d a1 a2 a3 a4 a5 a6 a7 a8 a9 a10 a11)
    (H : ∀ z7 z8 z9 z10 z11, cs_I n k t m n a1 a2 a3 a4 a5 a6 z7 z8 z9 z10 z11 → post (nI n, nI k, nI t, nI m, nI n, fn, fe, fc, ff, fl, fi, a1, a2, a3, a4, a5, a6, z7, z8, z9, z10, z11)) :
    wpX_fillTables post (nI n, nI k, nI t, nI m, nI d, fn, fe, fc, ff, fl, fi, a1, a2, a3, a4, a5, a6, a7, a8, a9, a10, a11) := by
  unfold wpX_fillTables
  obtain ⟨hW, ⟨hm, h6⟩, ⟨hd, hT⟩, hK⟩ := hI
  have hn : n ≤ 60 := hW.2.1
  refine pk_eq d 0 (fun z => cs_bm hm h6 (fun z7 R T hM => ?_)) (fun z => ?_)
  · exact cs_ft16 (R := R) (T := T) hW hm hd hM (fun w s hw => absurd hw (by omega)) (fun z8 z9 z10 z11 hD => H z7 z8 z9 z10 z11 ⟨hW, ⟨hm, h6⟩, ⟨Nat.le_refl n, fun _ => ⟨R, T, hM, hD⟩⟩, hK⟩)
  · obtain ⟨R, T, hM, hD⟩ := hT (by omega)
    exact cs_ft16 hW hm hd hM hD (fun z8 z9 z10 z11 hD => H a7 z8 z9 z10 z11 ⟨hW, ⟨hm, h6⟩, ⟨Nat.le_refl n, fun _ => ⟨R, T, hM, hD⟩⟩, hK⟩)
theorem cs_ft_same {post : St1 → Prop} {fk ft fm fn fe fc ff fl fi : Int32} {a1 a2 a3 a4 a5 a6 a7 a8 a9 a10 a11 : Nat → Int32} {n : Nat} (hn : 0 < n) (hn' : n ≤ 60) (H : post (nI n, fk, ft, fm, nI n, fn, fe, fc, ff, fl, fi, a1, a2, a3, a4, a5, a6, a7, a8, a9, a10, a11)) : wpX_fillTables post (nI n, fk, ft, fm, nI n, fn, fe, fc, ff, fl, fi, a1, a2, a3, a4, a5, a6, a7, a8, a9, a10, a11) := by
  unfold wpX_fillTables
  exact br_f (nI_ne0 hn (by omega)) ⟨1, pk_le n n (fun _ => H) (fun c => absurd c (by omega))⟩
end
section
/-! ### a run over all codes -/
def cs_st (a5 a8 : Nat → Int32) : Nat → Int32
  | 0 => 0
  | j + 1 => a8 (a5 j * 7 + cs_st a5 a8 j).toNatClampNeg
def cs_ct (a5 a8 a9 : Nat → Int32) : Nat → Int32
  | 0 => 0
  | j + 1 => cs_ct a5 a8 a9 j + a9 (a5 j * 7 + cs_st a5 a8 j).toNatClampNeg
/-- a run's answers behind P symbols -/
def cs_Q (m P : Nat) (fe fc ff fl fi : Int32) : Prop := ∃ e c i : Nat, fe = nI e ∧ fc = nI c ∧ fi = nI i ∧ e ≤ m ∧ e ≤ P ∧ c ≤ P ∧ i ≤ c ∧ (c = 0 → ff = -1 ∧ fl = -1) ∧ (0 < c → ∃ F G : Nat, ff = nI F ∧ fl = nI G ∧ F ≤ G ∧ G + m ≤ P ∧ (F = G ↔ c = 1))
theorem cs_Q_step0 {m P e l e' c' f g k0 : Nat} {fc ff fl fi : Int32} (hm : m ≤ 6) (he : e ≤ m) (h : cs_Q m P (nI e) fc ff fl fi) (hC : cs_C m e l e' c' f g) (hk : k0 ≤ c') (z : c' = 0) : cs_Q m (P + l) (nI e') fc ff fl (fi + nI k0) := by
  obtain ⟨e1, c, i, q1, q2, q3, q4, q5, q6, q7, q8, q9⟩ := h
  obtain ⟨h1, h2, h3, h4, h5⟩ := hC
  have ee := cs_inj q1 (by omega) (by omega)
  refine ⟨e', c, i + k0, rfl, q2, by rw [q3, nI_add], h1, by omega, by omega, by omega, q8, fun g => ?_⟩
  obtain ⟨F, G, r1, r2, r3, r4, r5⟩ := q9 g
  exact ⟨F, G, r1, r2, r3, by omega, r5⟩
theorem cs_Q_step1 {m P e l e' c' f g k0 : Nat} {fc ff fl fi : Int32} (hm : m ≤ 6) (he : e ≤ m) (h : cs_Q m P (nI e) fc ff fl fi) (hC : cs_C m e l e' c' f g) (hk : k0 ≤ c') (z : 0 < c') (z' : 0 ≤ ff) : cs_Q m (P + l) (nI e') (fc + nI c') ff (nI P + nI g - nI m) (fi + nI k0) := by
  obtain ⟨e1, c, i, q1, q2, q3, q4, q5, q6, q7, q8, q9⟩ := h
  obtain ⟨h1, h2, h3, h4, h5⟩ := hC
  have ee := cs_inj q1 (by omega) (by omega)
  obtain ⟨p1, p2, p3, p4, p5⟩ := h5 z
  by_cases c0 : c = 0
  · rw [(q8 c0).1] at z'
    exact absurd z' (by decide)
  · obtain ⟨F, G, r1, r2, r3, r4, r5⟩ := q9 (by omega)
    refine ⟨e', c + c', i + k0, rfl, by rw [q2, nI_add], by rw [q3, nI_add], h1, by omega, by omega, by omega, fun g => absurd g (by omega), fun _ => ?_⟩
    refine ⟨F, P + g - m, r1, by rw [nI_add, pk_sub (by omega)], by omega, by omega, by omega⟩
theorem cs_Q_step2 {m P e l e' c' f g k0 : Nat} {fc ff fl fi : Int32} (hm : m ≤ 6) (hP : P ≤ 250) (he : e ≤ m) (h : cs_Q m P (nI e) fc ff fl fi) (hC : cs_C m e l e' c' f g) (hk : k0 ≤ c') (z : 0 < c') (z' : ¬ 0 ≤ ff) : cs_Q m (P + l) (nI e') (fc + nI c') (nI P + nI f - nI m) (nI P + nI g - nI m) (fi + nI k0) := by
  obtain ⟨e1, c, i, q1, q2, q3, q4, q5, q6, q7, q8, q9⟩ := h
  obtain ⟨h1, h2, h3, h4, h5⟩ := hC
  have ee := cs_inj q1 (by omega) (by omega)
  obtain ⟨p1, p2, p3, p4, p5⟩ := h5 z
  by_cases c0 : c = 0
  · refine ⟨e', c + c', i + k0, rfl, by rw [q2, nI_add], by rw [q3, nI_add], h1, by omega, by omega, by omega, fun g => absurd g (by omega), fun _ => ?_⟩
    refine ⟨P + f - m, P + g - m, by rw [nI_add, pk_sub (by omega)], by rw [nI_add, pk_sub (by omega)], by omega, by omega, by omega⟩
  · obtain ⟨F, G, r1, r2, r3, r4, r5⟩ := q9 (by omega)
    rw [r1] at z'
    exact absurd (nI_pos' (by omega)) z'
/-- what a scan leaves -/
def cs_Kn (n k t m d : Nat) (fe fc ff fl fi : Int32) (a5 a8 a9 : Nat → Int32) : Prop := cs_Q m t fe fc ff fl fi ∧ (m = 0 → fc = 0) ∧ (0 < m → d = n ∧ fc = cs_ct a5 a8 a9 k)
theorem cs_pass {post : St1 → Prop} {fw fk ft fd fn fe fc ff fl fi : Int32} {a1 a2 a3 a4 a5 a6 a7 a8 a9 a10 a11 : Nat → Int32} {m x P e c f g : Nat} (hx : x < 420) (h8 : a8 x = nI e) (h9 : a9 x = nI c) (hc : c < 2 ^ 31) (h10 : a10 x = nI f) (h11 : a11 x = nI g)
    (H0 : c = 0 → post (fw, fk, ft, nI m, fd, fn, nI e, fc, ff, fl, fi, a1, a2, a3, a4, a5, a6, a7, a8, a9, a10, a11))
    (H1 : 0 < c → 0 ≤ ff → post (fw, fk, ft, nI m, fd, fn, nI e, fc + nI c, ff, nI P + nI g - nI m, fi, a1, a2, a3, a4, a5, a6, a7, a8, a9, a10, a11))
    (H2 : 0 < c → ¬ 0 ≤ ff → post (fw, fk, ft, nI m, fd, fn, nI e, fc + nI c, nI P + nI f - nI m, nI P + nI g - nI m, fi, a1, a2, a3, a4, a5, a6, a7, a8, a9, a10, a11)) :
    wpX_pass post (fw, fk, ft, nI m, fd, fn, fe, fc, ff, fl, fi, a1, a2, a3, a4, a5, a6, a7, a8, a9, a10, a11) (nI x) (nI P) := by
  unfold wpX_pass
  have ex : (nI x).toNatClampNeg = x := nI_clamp (by omega)
  have e8 : a8 (nI x).toNatClampNeg = nI e := by rw [ex]; exact h8
  have e9 : a9 (nI x).toNatClampNeg = nI c := by rw [ex]; exact h9
  have e10 : a10 (nI x).toNatClampNeg = nI f := by rw [ex]; exact h10
  have e11 : a11 (nI x).toNatClampNeg = nI g := by rw [ex]; exact h11
  refine ⟨pk_in x 420 hx, pk_le c 0 (fun z => ⟨pk_in x 420 hx, nm_r e8 (H0 (by omega))⟩) (fun z => ⟨pk_in x 420 hx, nm_r (e' := fc + nI c) (by rw [e9]) ⟨pk_in x 420 hx, nm_r (e' := nI P + nI g - nI m) (by rw [e11]) (br_c (fun z' => ?_) (fun z' => ⟨pk_in x 420 hx, ?_⟩))⟩⟩) e9⟩
  · unfold wX_pass_69
    exact ⟨pk_in x 420 hx, nm_r e8 (H1 z z')⟩
  · rw [e10]
    unfold wX_pass_69
    exact ⟨pk_in x 420 hx, nm_r e8 (H2 z z')⟩
theorem cs_pl_mono {a4 a5 : Nat → Int32} {j k : Nat} (h : j ≤ k) : cs_pl a4 a5 j ≤ cs_pl a4 a5 k := by
  induction k with
  | zero =>
    have e : j = 0 := by omega
    rw [e]
    exact Nat.le_refl _
  | succ k ih =>
    by_cases e : j = k + 1
    · rw [e]
      exact Nat.le_refl _
    · exact Nat.le_trans (ih (by omega)) (Nat.le_add_right _ _)
theorem cs_sc54 {post : St1 → Prop} {fn : Int32} {a1 a2 a3 a4 a5 a6 a7 a8 a9 a10 a11 : Nat → Int32} {n k t m : Nat} (hI : cs_I n k t m n a1 a2 a3 a4 a5 a6 a7 a8 a9 a10 a11)
    (H : ∀ fe fc ff fl fi, cs_Q m t fe fc ff fl fi → fc = cs_ct a5 a8 a9 k → post (nI n, nI k, nI t, nI m, nI n, fn, fe, fc, ff, fl, fi, a1, a2, a3, a4, a5, a6, a7, a8, a9, a10, a11)) :
    ∃ fu, wX_scan_54 post fu 0 0 (nI n) (nI k) (nI t) (nI m) (nI n) fn 0 0 (-1) (-1) 0 a1 a2 a3 a4 a5 a6 a7 a8 a9 a10 a11 := by
  obtain ⟨hW, ⟨hm, h6⟩, ⟨hd, hT⟩, hk, ht, h5, hp⟩ := hI
  obtain ⟨R, T, hM, hD⟩ := hT (by have := hW.1; omega)
  have hn : n ≤ 60 := hW.2.1
  refine pk_loop (σ := Int32 × Int32 × Int32 × Int32 × Int32) (fun fu j s => wX_scan_54 post fu (nI (cs_pl a4 a5 j)) (nI j) (nI n) (nI k) (nI t) (nI m) (nI n) fn s.1 s.2.1 s.2.2.1 s.2.2.2.1 s.2.2.2.2 a1 a2 a3 a4 a5 a6 a7 a8 a9 a10 a11) (fun j s => cs_Q m (cs_pl a4 a5 j) s.1 s.2.1 s.2.2.1 s.2.2.2.1 s.2.2.2.2 ∧ s.1 = cs_st a5 a8 j ∧ s.2.1 = cs_ct a5 a8 a9 j) k 0 (0, 0, -1, -1, 0) (by omega) ⟨⟨0, 0, 0, rfl, rfl, rfl, by omega, by omega, by omega, by omega, fun _ => ⟨rfl, rfl⟩, fun z => absurd z (by omega)⟩, rfl, rfl⟩ ?_ ?_
  · intro fu s h
    obtain ⟨fe, fc, ff, fl, fi⟩ := s
    obtain ⟨q1, q2, q3⟩ := h
    rw [← hp] at q1
    exact pk_le k k (fun _ => H fe fc ff fl fi q1 q3) (fun c => absurd c (by omega))
  · intro fu j s hj h hw
    obtain ⟨fe, fc, ff, fl, fi⟩ := s
    obtain ⟨q1, q2, q3⟩ := h
    dsimp only at q1 q2 q3
    obtain ⟨c, hc, hc5⟩ := h5 j hj
    have he : ∃ e, e ≤ m ∧ fe = nI e := by
      obtain ⟨e, _, _, r1, _, _, r2, _⟩ := q1
      exact ⟨e, r2, r1⟩
    obtain ⟨e, hem, he⟩ := he
    subst he
    obtain ⟨l, e', c', f, g, e0, k0, c1, c2, c3, c4, c5, c6, c7, c8, c9, c10, c11, c12⟩ := hD c e hc hem
    have b1 := c7.2.2.1
    have epl : cs_pl a4 a5 (j + 1) = cs_pl a4 a5 j + l := by
      show cs_pl a4 a5 j + (a4 (a5 j).toNatClampNeg).toNatClampNeg = _
      rw [hc5, nI_clamp (by omega), c1, nI_clamp (by omega)]
    have hP1 := cs_pl_mono (a4 := a4) (a5 := a5) (show j + 1 ≤ k by omega)
    have hP : cs_pl a4 a5 j ≤ 250 := by omega
    have ecell : (a5 j * 7 + cs_st a5 a8 j).toNatClampNeg = c * 7 + e := by
      rw [hc5, ← q2, cs_ix7, nI_clamp (by omega)]
    have est : nI e' = cs_st a5 a8 (j + 1) := by
      show nI e' = a8 (a5 j * 7 + cs_st a5 a8 j).toNatClampNeg
      rw [ecell, c3]
    have ect : fc + nI c' = cs_ct a5 a8 a9 (j + 1) := by
      show fc + nI c' = cs_ct a5 a8 a9 j + a9 (a5 j * 7 + cs_st a5 a8 j).toNatClampNeg
      rw [ecell, c4, q3]
    have e7 : (nI c * 7).toNatClampNeg = c * 7 := by rw [cs_ix70, nI_clamp (by omega)]
    have ex : (nI c).toNatClampNeg = c := nI_clamp (by omega)
    have E9 : fi + a9 (nI c * 7).toNatClampNeg = fi + nI k0 := by rw [e7, c9]
    have E4 : nI (cs_pl a4 a5 j) + a4 (nI c).toNatClampNeg = nI (cs_pl a4 a5 (j + 1)) := by rw [ex, c1, nI_add, epl]
    refine pk_le k j (fun z => absurd z (by omega)) (fun _ => ⟨pk_in j 250 (by omega), nm_r (e' := nI c) (by rw [nI_clamp (by omega), hc5]) ?_⟩)
    dsimp only
    rw [cs_ix7]
    refine cs_pass (by omega) c3 c4 (by omega) c5 c6 (fun z => ?_) (fun z z' => ?_) (fun z z' => ?_)
    · refine ⟨pk_in (c * 7) 420 (by omega) (cs_ix70 c), nm_r E9 ⟨pk_in c 60 (by omega), nm_r E4 (nm_r (nI_1 j) (hw (nI e', fc, ff, fl, fi + nI k0) ⟨?_, est, ?_⟩))⟩⟩
      · rw [epl]
        exact cs_Q_step0 hm hem q1 c7 c11 z
      · rw [← ect, z, nI_0, Int32.add_zero]
    · refine ⟨pk_in (c * 7) 420 (by omega) (cs_ix70 c), nm_r E9 ⟨pk_in c 60 (by omega), nm_r E4 (nm_r (nI_1 j) (hw (nI e', fc + nI c', ff, nI (cs_pl a4 a5 j) + nI g - nI m, fi + nI k0) ⟨?_, est, ect⟩))⟩⟩
      rw [epl]
      exact cs_Q_step1 hm hem q1 c7 c11 z z'
    · refine ⟨pk_in (c * 7) 420 (by omega) (cs_ix70 c), nm_r E9 ⟨pk_in c 60 (by omega), nm_r E4 (nm_r (nI_1 j) (hw (nI e', fc + nI c', nI (cs_pl a4 a5 j) + nI f - nI m, nI (cs_pl a4 a5 j) + nI g - nI m, fi + nI k0) ⟨?_, est, ect⟩))⟩⟩
      rw [epl]
      exact cs_Q_step2 hm hP hem q1 c7 c11 z z'
theorem cs_scan {post : St1 → Prop} {fn fe fc ff fl fi : Int32} {a1 a2 a3 a4 a5 a6 a7 a8 a9 a10 a11 : Nat → Int32} {n k t m d : Nat} (hI : cs_I n k t m d a1 a2 a3 a4 a5 a6 a7 a8 a9 a10 a11) (hK : fn = 0 ∨ (fn = 1 ∧ cs_Kn n k t m d fe fc ff fl fi a5 a8 a9))
    (H : ∀ d fe fc ff fl fi z7 z8 z9 z10 z11, cs_I n k t m d a1 a2 a3 a4 a5 a6 z7 z8 z9 z10 z11 → cs_Kn n k t m d fe fc ff fl fi a5 z8 z9 → post (nI n, nI k, nI t, nI m, nI d, 1, fe, fc, ff, fl, fi, a1, a2, a3, a4, a5, a6, z7, z8, z9, z10, z11)) :
    wpX_scan post (nI n, nI k, nI t, nI m, nI d, fn, fe, fc, ff, fl, fi, a1, a2, a3, a4, a5, a6, a7, a8, a9, a10, a11) := by
  unfold wpX_scan
  have hm : m ≤ 6 := hI.2.1.1
  rcases hK with rfl | ⟨rfl, hK⟩
  · refine br_t rfl (pk_eq m 0 (fun z => ?_) (fun z => ?_))
    · exact H d 0 0 (-1) (-1) 0 a7 a8 a9 a10 a11 hI ⟨⟨0, 0, 0, rfl, rfl, rfl, by omega, by omega, by omega, by omega, fun _ => ⟨rfl, rfl⟩, fun z => absurd z (by omega)⟩, fun _ => rfl, fun z' => absurd z' (by omega)⟩
    · exact cs_ft hI (fun z7 z8 z9 z10 z11 hI' => cs_sc54 hI' (fun fe fc ff fl fi hQ hc => H n fe fc ff fl fi z7 z8 z9 z10 z11 hI' ⟨hQ, fun z' => absurd z' z, fun _ => ⟨rfl, hc⟩⟩))
  · exact br_f (by decide) (H d fe fc ff fl fi a7 a8 a9 a10 a11 hI hK)
theorem cs_scan1 {post : St1 → Prop} {fw fk ft fm fd fe fc ff fl fi : Int32} {a1 a2 a3 a4 a5 a6 a7 a8 a9 a10 a11 : Nat → Int32} (H : post (fw, fk, ft, fm, fd, 1, fe, fc, ff, fl, fi, a1, a2, a3, a4, a5, a6, a7, a8, a9, a10, a11)) : wpX_scan post (fw, fk, ft, fm, fd, 1, fe, fc, ff, fl, fi, a1, a2, a3, a4, a5, a6, a7, a8, a9, a10, a11) := by
  unfold wpX_scan
  exact br_f (by decide) H
theorem cs_count {post : Int32 → St1 → Prop} {fn fe fc ff fl fi : Int32} {a1 a2 a3 a4 a5 a6 a7 a8 a9 a10 a11 : Nat → Int32} {n k t m d : Nat} (hI : cs_I n k t m d a1 a2 a3 a4 a5 a6 a7 a8 a9 a10 a11) (hK : fn = 0 ∨ (fn = 1 ∧ cs_Kn n k t m d fe fc ff fl fi a5 a8 a9))
    (H : ∀ d fe fc ff fl fi z7 z8 z9 z10 z11, cs_I n k t m d a1 a2 a3 a4 a5 a6 z7 z8 z9 z10 z11 → cs_Kn n k t m d fe fc ff fl fi a5 z8 z9 → post fc (nI n, nI k, nI t, nI m, nI d, 1, fe, fc, ff, fl, fi, a1, a2, a3, a4, a5, a6, z7, z8, z9, z10, z11)) :
    wpX_count post (nI n, nI k, nI t, nI m, nI d, fn, fe, fc, ff, fl, fi, a1, a2, a3, a4, a5, a6, a7, a8, a9, a10, a11) := by
  unfold wpX_count
  exact cs_scan hI hK H
theorem cs_count1 {post : Int32 → St1 → Prop} {fw fk ft fm fd fe fc ff fl fi : Int32} {a1 a2 a3 a4 a5 a6 a7 a8 a9 a10 a11 : Nat → Int32} (H : post fc (fw, fk, ft, fm, fd, 1, fe, fc, ff, fl, fi, a1, a2, a3, a4, a5, a6, a7, a8, a9, a10, a11)) : wpX_count post (fw, fk, ft, fm, fd, 1, fe, fc, ff, fl, fi, a1, a2, a3, a4, a5, a6, a7, a8, a9, a10, a11) := by
  unfold wpX_count
  exact cs_scan1 H
theorem cs_first1 {post : Int32 → St1 → Prop} {fw fk ft fm fd fe fc ff fl fi : Int32} {a1 a2 a3 a4 a5 a6 a7 a8 a9 a10 a11 : Nat → Int32} (H : post ff (fw, fk, ft, fm, fd, 1, fe, fc, ff, fl, fi, a1, a2, a3, a4, a5, a6, a7, a8, a9, a10, a11)) : wpX_first post (fw, fk, ft, fm, fd, 1, fe, fc, ff, fl, fi, a1, a2, a3, a4, a5, a6, a7, a8, a9, a10, a11) := by
  unfold wpX_first
  exact cs_scan1 H
theorem cs_last1 {post : Int32 → St1 → Prop} {fw fk ft fm fd fe fc ff fl fi : Int32} {a1 a2 a3 a4 a5 a6 a7 a8 a9 a10 a11 : Nat → Int32} (H : post fl (fw, fk, ft, fm, fd, 1, fe, fc, ff, fl, fi, a1, a2, a3, a4, a5, a6, a7, a8, a9, a10, a11)) : wpX_last post (fw, fk, ft, fm, fd, 1, fe, fc, ff, fl, fi, a1, a2, a3, a4, a5, a6, a7, a8, a9, a10, a11) := by
  unfold wpX_last
  exact cs_scan1 H
theorem cs_tail1 {post : Int32 → St1 → Prop} {fw fk ft fm fd fe fc ff fl fi : Int32} {a1 a2 a3 a4 a5 a6 a7 a8 a9 a10 a11 : Nat → Int32} (H : post fe (fw, fk, ft, fm, fd, 1, fe, fc, ff, fl, fi, a1, a2, a3, a4, a5, a6, a7, a8, a9, a10, a11)) : wpX_tail post (fw, fk, ft, fm, fd, 1, fe, fc, ff, fl, fi, a1, a2, a3, a4, a5, a6, a7, a8, a9, a10, a11) := by
  unfold wpX_tail
  exact cs_scan1 H
theorem cs_within1 {post : Int32 → St1 → Prop} {fw fk ft fm fd fe fc ff fl fi : Int32} {a1 a2 a3 a4 a5 a6 a7 a8 a9 a10 a11 : Nat → Int32} (H : post fi (fw, fk, ft, fm, fd, 1, fe, fc, ff, fl, fi, a1, a2, a3, a4, a5, a6, a7, a8, a9, a10, a11)) : wpX_within post (fw, fk, ft, fm, fd, 1, fe, fc, ff, fl, fi, a1, a2, a3, a4, a5, a6, a7, a8, a9, a10, a11) := by
  unfold wpX_within
  exact cs_scan1 H
end
section
/-! ### the state under the calls that change it -/
theorem cs_pl_congr {a4 a5 b4 b5 : Nat → Int32} {k : Nat} (h : ∀ j, j < k → (b4 (b5 j).toNatClampNeg).toNatClampNeg = (a4 (a5 j).toNatClampNeg).toNatClampNeg) : cs_pl b4 b5 k = cs_pl a4 a5 k := by
  induction k with
  | zero => rfl
  | succ k ih =>
    show cs_pl b4 b5 k + (b4 (b5 k).toNatClampNeg).toNatClampNeg = cs_pl a4 a5 k + (a4 (a5 k).toNatClampNeg).toNatClampNeg
    rw [ih (fun j hj => h j (by omega)), h k (by omega)]
/-- a code is taken -/
theorem cs_I_take {a1 a2 a3 a4 a5 a6 a7 a8 a9 a10 a11 : Nat → Int32} {n k t m d c l : Nat} (hI : cs_I n k t m d a1 a2 a3 a4 a5 a6 a7 a8 a9 a10 a11) (hk : k < 250) (hc : c < n) (h4 : a4 c = nI l) (hl : t + l ≤ 250) : cs_I n (k + 1) (t + l) m d a1 a2 a3 a4 (upd a5 k (nI c)) a6 a7 a8 a9 a10 a11 := by
  obtain ⟨hW, h6, hT, _, ht, h5, hp⟩ := hI
  have hn : n ≤ 60 := hW.2.1
  refine ⟨hW, h6, hT, by omega, hl, ?_, ?_⟩
  · intro j hj
    by_cases e : j = k
    · exact ⟨c, hc, by rw [e, pk_us]⟩
    · obtain ⟨c', h1, h2⟩ := h5 j (by omega)
      exact ⟨c', h1, by rw [pk_un e]; exact h2⟩
  · show t + l = cs_pl a4 (upd a5 k (nI c)) k + (a4 (upd a5 k (nI c) k).toNatClampNeg).toNatClampNeg
    have e : cs_pl a4 (upd a5 k (nI c)) k = cs_pl a4 a5 k := by
      refine cs_pl_congr (fun j hj => ?_)
      rw [pk_un (by omega)]
    rw [pk_us, nI_clamp (by omega), h4, nI_clamp (by omega), e, hp]
/-- a word is added -/
theorem cs_I_word {a1 a2 a3 a4 a5 a6 a7 a8 a9 a10 a11 : Nat → Int32} {n k t m d b x y l : Nat} (hI : cs_I n k t m d a1 a2 a3 a4 a5 a6 a7 a8 a9 a10 a11) (hn : n < 60) (hb : b < n) (hx : x < 4) (hy : y < 4) (h4 : a4 b = nI (l + 1)) (hl : l ≤ b) :
    cs_I (n + 1) k t m d (upd a1 n (nI b)) (upd a2 n (nI x)) (upd a3 n (nI y)) (upd a4 n (nI (l + 1 + 1))) a5 a6 a7 a8 a9 a10 a11 := by
  obtain ⟨⟨hn4, _, hW⟩, h6, ⟨hd, hT⟩, hk, ht, h5, hp⟩ := hI
  refine ⟨⟨by omega, by omega, ?_⟩, h6, ⟨by omega, fun z => ?_⟩, hk, ht, ?_, ?_⟩
  · intro w hw
    by_cases e : w = n
    · rw [e]
      exact ⟨x, y, l + 1, hx, pk_us, hy, pk_us, by omega, pk_us, Or.inr ⟨b, hb, pk_us, by omega, by rw [pk_un (by omega)]; exact h4⟩⟩
    · obtain ⟨x', y', l', q1, q2, q3, q4, q5, q6, q7⟩ := hW w (by omega)
      refine ⟨x', y', l', q1, by rw [pk_un e]; exact q2, q3, by rw [pk_un e]; exact q4, q5, by rw [pk_un e]; exact q6, ?_⟩
      rcases q7 with ⟨r1, r2⟩ | ⟨v, r0, r1, r2, r3⟩
      · exact Or.inl ⟨by rw [pk_un e]; exact r1, r2⟩
      · exact Or.inr ⟨v, r0, by rw [pk_un e]; exact r1, r2, by rw [pk_un (by omega)]; exact r3⟩
  · obtain ⟨R, T, hM, hD⟩ := hT z
    refine ⟨R, T, hM, fun w s hw hs => ?_⟩
    obtain ⟨l', e, c, f, g, e0, k0, c1, c2⟩ := hD w s hw hs
    exact ⟨l', e, c, f, g, e0, k0, by rw [pk_un (by omega)]; exact c1, c2⟩
  · intro j hj
    obtain ⟨c, h1, h2⟩ := h5 j hj
    exact ⟨c, by omega, h2⟩
  · rw [hp]
    refine (cs_pl_congr ?_).symm
    intro j hj
    obtain ⟨c, h1, h2⟩ := h5 j hj
    rw [h2, nI_clamp (by omega), pk_un (by omega)]
/-! ### restart, extend, shorten -/
theorem cs_restart {post : St1 → Prop} {fn fe fc ff fl fi : Int32} {a1 a2 a3 a4 a5 a6 a7 a8 a9 a10 a11 : Nat → Int32} {n k t m d : Nat} (hI : cs_I n k t m d a1 a2 a3 a4 a5 a6 a7 a8 a9 a10 a11)
    (H : ∀ d, cs_I 4 0 0 m d a1 a2 a3 a4 a5 a6 a7 a8 a9 a10 a11 → post (nI 4, nI 0, nI 0, nI m, nI d, 0, fe, fc, ff, fl, fi, a1, a2, a3, a4, a5, a6, a7, a8, a9, a10, a11)) : wpX_restart post (nI n, nI k, nI t, nI m, nI d, fn, fe, fc, ff, fl, fi, a1, a2, a3, a4, a5, a6, a7, a8, a9, a10, a11) := by
  unfold wpX_restart
  obtain ⟨⟨hn4, hn, hW⟩, h6, ⟨hd, hT⟩, hk, ht, h5, hp⟩ := hI
  refine pk_le d 4 (fun z => H d ?_) (fun z => H 4 ?_)
  · exact ⟨⟨by omega, by omega, fun w hw => hW w (by omega)⟩, h6, ⟨z, hT⟩, by omega, by omega, fun j hj => absurd hj (by omega), rfl⟩
  · refine ⟨⟨by omega, by omega, fun w hw => hW w (by omega)⟩, h6, ⟨by omega, fun _ => ?_⟩, by omega, by omega, fun j hj => absurd hj (by omega), rfl⟩
    obtain ⟨R, T, hM, hD⟩ := hT (by omega)
    exact ⟨R, T, hM, fun w s hw hs => hD w s (by omega) hs⟩
theorem cs_extend {post : Int32 → St1 → Prop} {fn fe fc ff fl fi : Int32} {a1 a2 a3 a4 a5 a6 a7 a8 a9 a10 a11 : Nat → Int32} {n k t m d : Nat} (p : Int32) (hI : cs_I n k t m d a1 a2 a3 a4 a5 a6 a7 a8 a9 a10 a11)
    (H0 : post 0 (nI n, nI k, nI t, nI m, nI d, fn, fe, fc, ff, fl, fi, a1, a2, a3, a4, a5, a6, a7, a8, a9, a10, a11))
    (H : ∀ m z6, cs_I n k t m 0 a1 a2 a3 a4 a5 z6 a7 a8 a9 a10 a11 → post 1 (nI n, nI k, nI t, nI m, nI 0, 0, fe, fc, ff, fl, fi, a1, a2, a3, a4, a5, z6, a7, a8, a9, a10, a11)) : wpX_extend post (nI n, nI k, nI t, nI m, nI d, fn, fe, fc, ff, fl, fi, a1, a2, a3, a4, a5, a6, a7, a8, a9, a10, a11) p := by
  unfold wpX_extend
  obtain ⟨hW, ⟨hm, h6⟩, ⟨hd, hT⟩, hK⟩ := hI
  refine br_c (fun _ => H0) (fun z => br_c (fun _ => H0) (fun z2 => pk_lt m 6 (fun g => ?_) (fun _ => H0)))
  obtain ⟨x, hx, hp⟩ := nI_of2 (M := 3) (n := 3) rfl z (Int32.not_lt.mp z2)
  subst hp
  refine ⟨pk_in m 6 g, nm_r (e' := upd a6 m (nI x)) (by rw [nI_clamp (by omega), cs_b8 _ (by omega)]) (nm_r (nI_1 m) ?_)⟩
  unfold wpX_patternChanged
  refine H (m + 1) (upd a6 m (nI x)) ⟨hW, ⟨by omega, fun j hj => ?_⟩, ⟨by omega, fun z => absurd z (by omega)⟩, hK⟩
  by_cases e : j = m
  · exact ⟨x, by omega, by rw [e, pk_us]⟩
  · obtain ⟨y, y1, y2⟩ := h6 j (by omega)
    exact ⟨y, y1, by rw [pk_un e]; exact y2⟩
theorem cs_shorten {post : Int32 → St1 → Prop} {fn fe fc ff fl fi : Int32} {a1 a2 a3 a4 a5 a6 a7 a8 a9 a10 a11 : Nat → Int32} {n k t m d : Nat} (hI : cs_I n k t m d a1 a2 a3 a4 a5 a6 a7 a8 a9 a10 a11)
    (H0 : post (-1) (nI n, nI k, nI t, nI m, nI d, fn, fe, fc, ff, fl, fi, a1, a2, a3, a4, a5, a6, a7, a8, a9, a10, a11))
    (H : ∀ r m z6, cs_I n k t m 0 a1 a2 a3 a4 a5 z6 a7 a8 a9 a10 a11 → post r (nI n, nI k, nI t, nI m, nI 0, 0, fe, fc, ff, fl, fi, a1, a2, a3, a4, a5, z6, a7, a8, a9, a10, a11)) : wpX_shorten post (nI n, nI k, nI t, nI m, nI d, fn, fe, fc, ff, fl, fi, a1, a2, a3, a4, a5, a6, a7, a8, a9, a10, a11) := by
  unfold wpX_shorten
  obtain ⟨hW, ⟨hm, h6⟩, ⟨hd, hT⟩, hK⟩ := hI
  refine pk_eq m 0 (fun _ => H0) (fun z => nm_e ?_)
  refine pk_loop (fun fu i s => wX_shorten_18 post (a6 0) (nI n) (nI k) (nI t) (nI m) (nI d) fn fe fc ff fl fi fu (nI i) a1 a2 a3 a4 a5 s a7 a8 a9 a10 a11) (fun i s => 1 ≤ i ∧ ∀ j, j < m → ∃ x, x < 4 ∧ s j = nI x) m 1 a6 (by omega) ⟨Nat.le_refl 1, h6⟩ ?_ ?_
  · intro fu s h
    obtain ⟨_, h⟩ := h
    refine pk_le m m (fun _ => nm_r (e' := nI (m - 1)) (pk_sub (b := 1) (by omega)) ?_) (fun c => absurd c (by omega))
    unfold wpX_patternChanged
    exact H _ (m - 1) s ⟨hW, ⟨by omega, fun j hj => h j (by omega)⟩, ⟨by omega, fun z => absurd z (by omega)⟩, hK⟩
  · intro fu i s hi h hw
    obtain ⟨hi1, h⟩ := h
    obtain ⟨x, hx, hs⟩ := h i hi
    have e1 : nI i - 1 = nI (i - 1) := pk_sub (b := 1) (by omega)
    refine pk_le m i (fun c => absurd c (by omega)) (fun _ => ⟨pk_in i 6 (by omega), pk_in (i - 1) 6 (by omega) e1, nm_r (e' := upd s (i - 1) (nI x)) (by rw [e1, nI_clamp (by omega), nI_clamp (by omega), hs, cs_nb (by omega)]) (nm_r (nI_1 i) (hw _ ⟨by omega, ?_⟩))⟩)
    intro j hj
    by_cases e : j = i - 1
    · exact ⟨x, hx, by rw [e, pk_us]⟩
    · obtain ⟨y, y1, y2⟩ := h j hj
      exact ⟨y, y1, by rw [pk_un e]; exact y2⟩
/-! ### feed -/
theorem cs_al96 {post : Int32 → Prop} {fw fk fm fd fn fe fc ff fl fi : Int32} {a1 a2 a3 a4 a5 a6 a7 a8 a9 a10 a11 : Nat → Int32} {t l : Nat} (ht : t ≤ 250) (hl : l ≤ 70) (H0 : post 0) (H1 : t + l ≤ 250 → post 1) : wX_allowed_96 post (nI l) fw fk (nI t) fm fd fn fe fc ff fl fi a1 a2 a3 a4 a5 a6 a7 a8 a9 a10 a11 := by
  unfold wX_allowed_96
  exact pk_lt 250 (t + l) (fun _ => H0) (fun g => H1 g) rfl (nI_add t l)
theorem cs_al61 {post : Int32 → Prop} {fn fe fc ff fl fi : Int32} {a1 a2 a3 a4 a5 a6 a7 a8 a9 a10 a11 : Nat → Int32} {n k t m d c : Nat} (hI : cs_I n k t m d a1 a2 a3 a4 a5 a6 a7 a8 a9 a10 a11) (hk : 0 < k) (hc : c ≤ n) (H0 : post 0)
    (H1 : c = n → ∀ b l, b < n → a5 (k - 1) = nI b → a4 b = nI (l + 1) → l ≤ b → t + (l + 1 + 1) ≤ 250 → post 1) (H2 : c < n → ∀ l, a4 c = nI l → t + l ≤ 250 → post 1) :
    wX_allowed_61 post (nI c) (nI n) (nI k) (nI t) (nI m) (nI d) fn fe fc ff fl fi a1 a2 a3 a4 a5 a6 a7 a8 a9 a10 a11 := by
  unfold wX_allowed_61
  obtain ⟨⟨hn4, hn, hW⟩, _, _, hk250, ht, h5, _⟩ := hI
  have e1 : nI k - 1 = nI (k - 1) := pk_sub (b := 1) (by omega)
  refine pk_eq c n (fun z => ?_) (fun z => ?_)
  · obtain ⟨b, hb, hb5⟩ := h5 (k - 1) (by omega)
    obtain ⟨_, _, l, _, _, _, _, q5, q6, _⟩ := hW b hb
    have e2 : a5 (nI k - 1).toNatClampNeg = nI b := by rw [e1, nI_clamp (by omega)]; exact hb5
    have e3 : a4 (a5 (nI k - 1).toNatClampNeg).toNatClampNeg + 1 = nI (l + 1 + 1) := by rw [e2, nI_clamp (by omega), q6, nI_1]
    refine ⟨pk_in (k - 1) 250 (by omega) e1, pk_in b 60 (by omega) e2, ?_⟩
    rw [e3]
    exact cs_al96 ht (by omega) H0 (H1 z b l hb hb5 q6 q5)
  · obtain ⟨_, _, l, _, _, _, _, q5, q6, _⟩ := hW c (by omega)
    have e3 : a4 (nI c).toNatClampNeg = nI (l + 1) := by rw [nI_clamp (by omega)]; exact q6
    refine ⟨pk_in c 60 (by omega), ?_⟩
    rw [e3]
    exact cs_al96 ht (by omega) H0 (H2 (by omega) (l + 1) q6)
/-- what an allowed code is: the first one (k = 0), a known word, or the word to be made -/
theorem cs_allowed {post : Int32 → Prop} {fn fe fc ff fl fi : Int32} {a1 a2 a3 a4 a5 a6 a7 a8 a9 a10 a11 : Nat → Int32} {n k t m d : Nat} (p : Int32) (hI : cs_I n k t m d a1 a2 a3 a4 a5 a6 a7 a8 a9 a10 a11) (H0 : post 0)
    (HA : ∀ c, p = nI c → k = 0 → c < 4 → post 1)
    (HB : ∀ c l, p = nI c → 0 < k → k < 250 → c < n → a4 c = nI l → t + l ≤ 250 → post 1)
    (HC : ∀ b l, p = nI n → 0 < k → k < 250 → n < 60 → b < n → a5 (k - 1) = nI b → a4 b = nI (l + 1) → l ≤ b → t + (l + 1 + 1) ≤ 250 → post 1) :
    wpX_allowed post (nI n, nI k, nI t, nI m, nI d, fn, fe, fc, ff, fl, fi, a1, a2, a3, a4, a5, a6, a7, a8, a9, a10, a11) p := by
  unfold wpX_allowed
  have hn : n ≤ 60 := hI.1.2.1
  have hk : k ≤ 250 := hI.2.2.2.1
  refine br_c (fun _ => H0) (fun z => ?_)
  obtain ⟨c, hc, hp⟩ := nI_of z
  subst hp
  refine pk_lt k 250 (fun g1 => pk_eq k 0 (fun g2 => pk_le 4 c (fun _ => H0) (fun g3 => HA c rfl g2 g3)) (fun g2 => pk_lt n c (fun _ => H0) (fun g3 => pk_eq c n (fun g4 => pk_eq n 60 (fun _ => H0) (fun g5 => ?_)) (fun g4 => ?_)))) (fun _ => H0)
  · exact cs_al61 hI (by omega) g3 H0 (fun e b l q1 q2 q3 q4 q5 => HC b l (by rw [e]) (by omega) g1 (by omega) q1 q2 q3 q4 q5) (fun e => absurd e (by omega))
  · exact cs_al61 hI (by omega) g3 H0 (fun e => absurd e g4) (fun e l q1 q2 => HB c l rfl (by omega) g1 e q1 q2)
theorem cs_addWord {post : St1 → Prop} {fk ft fm fd fn fe fc ff fl fi : Int32} {a1 a2 a3 a4 a5 a6 a7 a8 a9 a10 a11 : Nat → Int32} {n b x y l : Nat} (hn : n < 60) (hb : b < 60) (hx : x < 4) (hy : y < 4) (h3 : a3 b = nI y) (h4 : a4 b = nI l) (hl : l ≤ 60)
    (H : post (nI (n + 1), fk, ft, fm, fd, fn, fe, fc, ff, fl, fi, upd a1 n (nI b), upd a2 n (nI x), upd a3 n (nI y), upd a4 n (nI (l + 1)), a5, a6, a7, a8, a9, a10, a11)) : wpX_addWord post (nI n, fk, ft, fm, fd, fn, fe, fc, ff, fl, fi, a1, a2, a3, a4, a5, a6, a7, a8, a9, a10, a11) (nI b) (nI x) := by
  unfold wpX_addWord
  have en : (nI n).toNatClampNeg = n := nI_clamp (by omega)
  have eb : (nI b).toNatClampNeg = b := nI_clamp (by omega)
  exact ⟨pk_in n 60 hn, nm_r (e' := upd a1 n (nI b)) (by rw [en, cs_b8 _ (by omega)]) ⟨pk_in n 60 hn, nm_r (e' := upd a2 n (nI x)) (by rw [en, cs_b8 _ (by omega)]) ⟨pk_in b 60 hb, pk_in n 60 hn, nm_r (e' := upd a3 n (nI y)) (by rw [en, eb, h3, cs_nb (by omega)]) ⟨pk_in b 60 hb, pk_in n 60 hn, nm_r (e' := upd a4 n (nI (l + 1))) (by rw [en, eb, h4, nI_1, cs_s16 _ (by omega)]) (nm_r (nI_1 n) H)⟩⟩⟩⟩
theorem cs_fd76 {post : Int32 → St1 → Prop} {fw fm fd fn fe fc ff fl fi : Int32} {a1 a2 a3 a4 a5 a6 a7 a8 a9 a10 a11 : Nat → Int32} {k t c l : Nat} (hk : k < 250) (hc : c < 60) (h4 : a4 c = nI l)
    (H : post (nI l) (fw, nI (k + 1), nI (t + l), fm, fd, 0, fe, fc, ff, fl, fi, a1, a2, a3, a4, upd a5 k (nI c), a6, a7, a8, a9, a10, a11)) : wX_feed_76 post (nI c) fw (nI k) (nI t) fm fd fn fe fc ff fl fi a1 a2 a3 a4 a5 a6 a7 a8 a9 a10 a11 := by
  unfold wX_feed_76
  have e4 : a4 (nI c).toNatClampNeg = nI l := by rw [nI_clamp (by omega)]; exact h4
  refine ⟨pk_in k 250 hk, nm_r (e' := upd a5 k (nI c)) (by rw [nI_clamp (by omega), cs_b8 _ (by omega)]) (nm_r (nI_1 k) ⟨pk_in c 60 hc, nm_r (e' := nI (t + l)) (by rw [e4, nI_add]) ⟨pk_in c 60 hc, ?_⟩⟩)⟩
  rw [e4]
  exact H
theorem cs_feed {post : Int32 → St1 → Prop} {fn fe fc ff fl fi : Int32} {a1 a2 a3 a4 a5 a6 a7 a8 a9 a10 a11 : Nat → Int32} {n k t m d : Nat} (p : Int32) (hI : cs_I n k t m d a1 a2 a3 a4 a5 a6 a7 a8 a9 a10 a11)
    (H0 : post (-1) (nI n, nI k, nI t, nI m, nI d, fn, fe, fc, ff, fl, fi, a1, a2, a3, a4, a5, a6, a7, a8, a9, a10, a11))
    (H : ∀ r n k t z1 z2 z3 z4 z5, cs_I n k t m d z1 z2 z3 z4 z5 a6 a7 a8 a9 a10 a11 → post r (nI n, nI k, nI t, nI m, nI d, 0, fe, fc, ff, fl, fi, z1, z2, z3, z4, z5, a6, a7, a8, a9, a10, a11)) :
    wpX_feed post (nI n, nI k, nI t, nI m, nI d, fn, fe, fc, ff, fl, fi, a1, a2, a3, a4, a5, a6, a7, a8, a9, a10, a11) p := by
  unfold wpX_feed
  have hI' := hI
  obtain ⟨⟨hn4, hn, hW⟩, _, _, hk250, ht, h5, hpl⟩ := hI'
  refine cs_allowed p hI (br_t rfl H0) (fun c ep g1 g2 => br_f (by decide) ?_) (fun c l ep g1 g2 g3 g4 g5 => br_f (by decide) ?_) (fun b l ep g1 g2 g3 g4 g5 g6 g7 g8 => br_f (by decide) ?_)
  · subst ep
    refine pk_le k 0 (fun _ => ?_) (fun z => absurd z (by omega))
    unfold wX_feed_32
    obtain ⟨_, _, l, _, _, _, _, q5, q6, _⟩ := hW c (by omega)
    have t0 : t = 0 := by rw [hpl, g1]; rfl
    exact br_t (by decide) (cs_fd76 (by omega) (by omega) q6 (H _ _ _ _ _ _ _ _ _ (cs_I_take hI (by omega) (by omega) q6 (by omega))))
  · subst ep
    refine pk_le k 0 (fun z => absurd z (by omega)) (fun _ => ?_)
    obtain ⟨b, hb, hb5⟩ := h5 (k - 1) (by omega)
    have e1 : nI k - 1 = nI (k - 1) := pk_sub (b := 1) (by omega)
    have e2 : a5 (nI k - 1).toNatClampNeg = nI b := by rw [e1, nI_clamp (by omega)]; exact hb5
    refine ⟨pk_in (k - 1) 250 (by omega) e1, ?_⟩
    rw [e2]
    unfold wX_feed_32
    refine br_f (nI_pos (by omega)) (pk_le 60 n (fun _ => ?_) (fun g => pk_eq c n (fun z => absurd z (by omega)) (fun _ => ⟨pk_in c 60 (by omega), ?_⟩)))
    · exact cs_fd76 (by omega) (by omega) g4 (H _ _ _ _ _ _ _ _ _ (cs_I_take hI g2 g3 g4 g5))
    · obtain ⟨_, x, _, _, _, q3, q4, _, _, _⟩ := hW c g3
      obtain ⟨_, y, lb, _, _, r3, r4, r5, r6, _⟩ := hW b hb
      rw [nI_clamp (by omega), q4]
      unfold wX_feed_69
      refine cs_addWord g (by omega) q3 r3 r4 r6 (by omega) ?_
      have hI2 := cs_I_word (x := x) (y := y) hI g hb q3 r3 r6 r5
      have h4' : upd a4 n (nI (lb + 1 + 1)) c = nI l := by rw [pk_un (by omega)]; exact g4
      exact cs_fd76 (by omega) (by omega) h4' (H _ _ _ _ _ _ _ _ _ (cs_I_take hI2 g2 (by omega) h4' g5))
  · subst ep
    refine pk_le k 0 (fun z => absurd z (by omega)) (fun _ => ?_)
    have e1 : nI k - 1 = nI (k - 1) := pk_sub (b := 1) (by omega)
    have e2 : a5 (nI k - 1).toNatClampNeg = nI b := by rw [e1, nI_clamp (by omega)]; exact g5
    refine ⟨pk_in (k - 1) 250 (by omega) e1, ?_⟩
    rw [e2]
    unfold wX_feed_32
    refine br_f (nI_pos (by omega)) (pk_le 60 n (fun z => absurd z (by omega)) (fun g => pk_eq n n (fun z => ⟨pk_in b 60 (by omega), ?_⟩) (fun z => absurd rfl z)))
    obtain ⟨_, y, _, _, _, r3, r4, _, _, _⟩ := hW b g4
    rw [nI_clamp (by omega), r4]
    unfold wX_feed_69
    refine cs_addWord g (by omega) r3 r3 r4 g6 (by omega) ?_
    have hI2 := cs_I_word (x := y) (y := y) hI g g4 r3 r3 g6 g7
    exact cs_fd76 (by omega) (by omega) pk_us (H _ _ _ _ _ _ _ _ _ (cs_I_take hI2 g2 (by omega) pk_us g8))
/-! ### one turn of the law -/
theorem cs_turn {post : St1 → Prop} {fn fe fc ff fl fi : Int32} {a1 a2 a3 a4 a5 a6 a7 a8 a9 a10 a11 : Nat → Int32} {n k t m d : Nat} (p q : Int32) (hI : cs_I n k t m d a1 a2 a3 a4 a5 a6 a7 a8 a9 a10 a11)
    (H0 : post (nI n, nI k, nI t, nI m, nI d, fn, fe, fc, ff, fl, fi, a1, a2, a3, a4, a5, a6, a7, a8, a9, a10, a11))
    (H : ∀ n k t m d z1 z2 z3 z4 z5 z6, cs_I n k t m d z1 z2 z3 z4 z5 z6 a7 a8 a9 a10 a11 → post (nI n, nI k, nI t, nI m, nI d, 0, fe, fc, ff, fl, fi, z1, z2, z3, z4, z5, z6, a7, a8, a9, a10, a11)) :
    wpL_turn post (nI n, nI k, nI t, nI m, nI d, fn, fe, fc, ff, fl, fi, a1, a2, a3, a4, a5, a6, a7, a8, a9, a10, a11) p q := by
  unfold wpL_turn wpX_words
  have hn : n ≤ 60 := hI.1.2.1
  refine br_c (fun _ => br_c (fun _ => br_c (fun _ => br_c (fun _ => ?_) (fun _ => H0)) (fun _ => ?_)) (fun _ => ?_)) (fun _ => ⟨?_, br_c (fun _ => ?_) (fun _ => ?_)⟩)
  · exact cs_restart hI (fun d hI' => H 4 0 0 m d a1 a2 a3 a4 a5 a6 hI')
  · exact cs_shorten hI H0 (fun r m z6 hI' => H n k t m 0 a1 a2 a3 a4 a5 z6 hI')
  · exact cs_extend (q &&& 3) hI H0 (fun m z6 hI' => H n k t m 0 a1 a2 a3 a4 a5 z6 hI')
  · rw [show (2 : Int32) = nI 2 from rfl, nI_add]
    exact nI_ne0 (by omega) (by omega)
  · unfold wL_turn_36
    exact cs_feed _ hI H0 (fun r n k t z1 z2 z3 z4 z5 hI' => H n k t m d z1 z2 z3 z4 z5 a6 hI')
  · unfold wL_turn_36
    exact cs_feed _ hI H0 (fun r n k t z1 z2 z3 z4 z5 hI' => H n k t m d z1 z2 z3 z4 z5 a6 hI')
end
section
/-! ### symbolIn, symbol -/
theorem cs_si12 {post : Int32 → Prop} {fw fk ft fm fd fn fe fc ff fl fi : Int32} {a1 a2 a3 a4 a5 a6 a7 a8 a9 a10 a11 : Nat → Int32} {n r : Nat} (hW : cs_W n a1 a2 a3 a4) (hr : r < 2 ^ 31) (H : ∀ x, x < 4 → post (nI x)) :
    ∀ i v, v < n → i < 60 → a4 v = nI (i + 1) → wX_symbolIn_12 post (nI r) fw fk ft fm fd fn fe fc ff fl fi a1 a2 a3 a4 a5 a6 a7 a8 a9 a10 a11 (i + 1) (nI v) (nI i) := by
  obtain ⟨hn4, hn, hW⟩ := hW
  intro i
  induction i with
  | zero =>
    intro v hv _ h4
    obtain ⟨x, _, _, q1, q2, _⟩ := hW v hv
    refine pk_le 0 r (fun _ => ⟨pk_in v 60 (by omega), ?_⟩) (fun z => absurd z (by omega))
    rw [nI_clamp (by omega), q2]
    exact H x q1
  | succ i ih =>
    intro v hv hi h4
    obtain ⟨x, y, l, q1, q2, q3, q4, q5, q6, q7⟩ := hW v hv
    refine pk_le (i + 1) r (fun _ => ⟨pk_in v 60 (by omega), ?_⟩) (fun z => ⟨pk_in v 60 (by omega), ?_⟩)
    · rw [nI_clamp (by omega), q2]
      exact H x q1
    · rw [q6] at h4
      have el := cs_inj h4 (by omega) (by omega)
      rcases q7 with ⟨r1, r2⟩ | ⟨v', r0, r1, r2, r3⟩
      · exact absurd r2 (by omega)
      · have e : l = i + 1 := by omega
        rw [e] at r3
        exact nm_r (e' := nI v') (by rw [nI_clamp (by omega), r1]) (nm_r (pk_m1 i) (ih v' (by omega) (by omega) r3))
theorem cs_si {post : Int32 → Prop} {fw fk ft fm fd fn fe fc ff fl fi : Int32} {a1 a2 a3 a4 a5 a6 a7 a8 a9 a10 a11 : Nat → Int32} {n r w : Nat} (hW : cs_W n a1 a2 a3 a4) (hr : r < 2 ^ 31) (hw : w < n) (H : ∀ x, x < 4 → post (nI x)) : wpX_symbolIn post (fw, fk, ft, fm, fd, fn, fe, fc, ff, fl, fi, a1, a2, a3, a4, a5, a6, a7, a8, a9, a10, a11) (nI w) (nI r) := by
  unfold wpX_symbolIn
  have hn : n ≤ 60 := hW.2.1
  obtain ⟨x, y, l, q1, q2, q3, q4, q5, q6, q7⟩ := hW.2.2 w hw
  have e : a4 (nI w).toNatClampNeg - 1 = nI l := by rw [nI_clamp (by omega), q6]; exact nI_pred l
  exact ⟨pk_in w 60 (by omega), nm_r e ⟨l + 1, cs_si12 hW hr H l w hw (by omega) q6⟩⟩
theorem cs_sy63 {post : Int32 → Prop} {fw fk ft fm fd fn fe fc ff fl fi : Int32} {a1 a2 a3 a4 a5 a6 a7 a8 a9 a10 a11 : Nat → Int32} {n r i c : Nat} (hW : cs_W n a1 a2 a3 a4) (hr : r < 2 ^ 31) (hi : i < 250) (hc : c < n) (h5 : a5 i = nI c) (H : ∀ x, x < 4 → post (nI x)) : wX_symbol_63 post (nI r) (nI i) fw fk ft fm fd fn fe fc ff fl fi a1 a2 a3 a4 a5 a6 a7 a8 a9 a10 a11 := by
  unfold wX_symbol_63
  refine ⟨pk_in i 250 hi, ?_⟩
  rw [nI_clamp (by omega), h5]
  exact cs_si hW hr hc H
theorem cs_symbol {post : Int32 → Prop} {fn fe fc ff fl fi : Int32} {a1 a2 a3 a4 a5 a6 a7 a8 a9 a10 a11 : Nat → Int32} {n k t m d : Nat} (p : Int32) (hI : cs_I n k t m d a1 a2 a3 a4 a5 a6 a7 a8 a9 a10 a11) (H0 : p < 0 → post (-1)) (H1 : ¬ p < 0 → p < nI t → ∀ x, x < 4 → post (nI x)) (H2 : ¬ p < 0 → ¬ p < nI t → post (-1)) :
    wpX_symbol post (nI n, nI k, nI t, nI m, nI d, fn, fe, fc, ff, fl, fi, a1, a2, a3, a4, a5, a6, a7, a8, a9, a10, a11) p := by
  unfold wpX_symbol
  obtain ⟨hW, _, _, hk, ht, h5, hp⟩ := hI
  have hn : n ≤ 60 := hW.2.1
  refine br_c H0 (fun z => br_c (fun z2 => ?_) (H2 z))
  have H := H1 z z2
  obtain ⟨q, hq, eq⟩ := nI_of z
  subst eq
  have hqt : q < t := (nI_ltI hq (by omega)).mp z2
  have hk0 : 0 < k := by
    by_cases e : k = 0
    · rw [e] at hp
      have : t = 0 := hp
      omega
    · omega
  have ek : nI k - 1 = nI (k - 1) := pk_sub (b := 1) (by omega)
  refine pk_loop (σ := Nat) (fun fu i r => wX_symbol_18 post (nI n) (nI k) (nI t) (nI m) (nI d) fn fe fc ff fl fi a1 a2 a3 a4 a5 a6 a7 a8 a9 a10 a11 fu (nI r) (nI i)) (fun i r => r < 2 ^ 31) (k - 1) 0 q (by omega) hq ?_ ?_
  · intro fu r hr
    obtain ⟨c, hc, hc5⟩ := h5 (k - 1) (by omega)
    exact pk_le (k - 1) (k - 1) (fun _ => cs_sy63 hW hr (by omega) hc hc5 H) (fun z => absurd z (by omega)) ek
  · intro fu i r hi hr hw
    obtain ⟨c, hc, hc5⟩ := h5 i (by omega)
    obtain ⟨x, y, l, q1, q2, q3, q4, q5, q6, q7⟩ := hW.2.2 c hc
    have e5 : a5 (nI i).toNatClampNeg = nI c := by rw [nI_clamp (by omega)]; exact hc5
    have e4 : a4 (a5 (nI i).toNatClampNeg).toNatClampNeg = nI (l + 1) := by rw [e5, nI_clamp (by omega)]; exact q6
    refine pk_le (k - 1) i (fun z => absurd z (by omega)) (fun _ => ⟨pk_in i 250 (by omega), pk_in c 60 (by omega) e5, pk_lt r (l + 1) (fun _ => cs_sy63 hW hr (by omega) hc hc5 H) (fun g => ⟨pk_in i 250 (by omega), pk_in c 60 (by omega) e5, nm_r (e' := nI (r - (l + 1))) (by rw [e4, pk_sub g]) (nm_r (nI_1 i) (hw (r - (l + 1)) (by omega)))⟩) rfl e4⟩) ek
/-! ### endingIn, sums -/
theorem cs_st_ok {a1 a2 a3 a4 a5 a6 a7 a8 a9 a10 a11 : Nat → Int32} {n k t m : Nat} (hI : cs_I n k t m n a1 a2 a3 a4 a5 a6 a7 a8 a9 a10 a11) : ∀ i, i ≤ k → ∃ e, e ≤ m ∧ cs_st a5 a8 i = nI e := by
  obtain ⟨hW, ⟨hm, h6⟩, ⟨hd, hT⟩, hk, ht, h5, hp⟩ := hI
  obtain ⟨R, T, hM, hD⟩ := hT (by have := hW.1; omega)
  have hn : n ≤ 60 := hW.2.1
  intro i
  induction i with
  | zero => intro _; exact ⟨0, by omega, rfl⟩
  | succ i ih =>
    intro hi
    obtain ⟨e, he, hs⟩ := ih (by omega)
    obtain ⟨c, hc, hc5⟩ := h5 i (by omega)
    obtain ⟨l, e', c', f, g, e0, k0, c1, c2, c3, c4, c5, c6, c7, c8⟩ := hD c e hc he
    refine ⟨e', c7.1, ?_⟩
    show a8 (a5 i * 7 + cs_st a5 a8 i).toNatClampNeg = nI e'
    rw [hc5, hs, cs_ix7, nI_clamp (by omega)]
    exact c3
theorem cs_st_in {a1 a2 a3 a4 a5 a6 a7 a8 a9 a10 a11 : Nat → Int32} {n k t m i : Nat} (hI : cs_I n k t m n a1 a2 a3 a4 a5 a6 a7 a8 a9 a10 a11) (hi : i < k) : vp_in (a5 i * 7 + cs_st a5 a8 i) 420 := by
  obtain ⟨e, he, hs⟩ := cs_st_ok hI i (by omega)
  obtain ⟨c, hc, hc5⟩ := hI.2.2.2.2.2.1 i hi
  have hn : n ≤ 60 := hI.1.2.1
  have hm : m ≤ 6 := hI.2.1.1
  exact pk_in (c * 7 + e) 420 (by omega) (by rw [hc5, hs, cs_ix7])
theorem cs_end {post : Int32 → St1 → Prop} {fn fe fc ff fl fi : Int32} {a1 a2 a3 a4 a5 a6 a7 a8 a9 a10 a11 : Nat → Int32} {n k t m j : Nat} (hI : cs_I n k t m n a1 a2 a3 a4 a5 a6 a7 a8 a9 a10 a11) (hm : 0 < m) (hj : j < k)
    (H : post (a9 (a5 j * 7 + cs_st a5 a8 j).toNatClampNeg) (nI n, nI k, nI t, nI m, nI n, fn, fe, fc, ff, fl, fi, a1, a2, a3, a4, a5, a6, a7, a8, a9, a10, a11)) : wpX_endingIn post (nI n, nI k, nI t, nI m, nI n, fn, fe, fc, ff, fl, fi, a1, a2, a3, a4, a5, a6, a7, a8, a9, a10, a11) (nI j) := by
  unfold wpX_endingIn
  have hn4 : 4 ≤ n := hI.1.1
  have hn : n ≤ 60 := hI.1.2.1
  have hm6 : m ≤ 6 := hI.2.1.1
  have hk : k ≤ 250 := hI.2.2.2.1
  refine br_f (nI_pos (by omega)) (pk_le k j (fun z => absurd z (by omega)) (fun _ => pk_eq m 0 (fun z => absurd z (by omega)) (fun _ => cs_ft_same (by omega) hn ?_)))
  refine pk_loop (σ := Unit) (fun fu i _ => wX_endingIn_29 post (nI j) (nI n) (nI k) (nI t) (nI m) (nI n) fn fe fc ff fl fi a1 a2 a3 a4 a5 a6 a7 a8 a9 a10 a11 fu (cs_st a5 a8 i) (nI i)) (fun _ _ => True) j 0 () (by omega) trivial ?_ ?_
  · intro fu _ _
    have ej : (nI j).toNatClampNeg = j := nI_clamp (by omega)
    refine pk_le j j (fun _ => ⟨pk_in j 250 (by omega), ?_, ?_⟩) (fun z => absurd z (by omega))
    · rw [ej]
      exact cs_st_in hI hj
    · rw [ej]
      exact H
  · intro fu i _ hi _ hw
    have ej : (nI i).toNatClampNeg = i := nI_clamp (by omega)
    refine pk_le j i (fun z => absurd z (by omega)) (fun _ => ⟨pk_in i 250 (by omega), ?_, nm_r (e' := cs_st a5 a8 (i + 1)) (by rw [ej]; rfl) (nm_r (nI_1 i) (hw () trivial))⟩)
    rw [ej]
    exact cs_st_in hI (by omega)
theorem cs_sums {post : Int32 → St1 → Prop} {fn fe fc ff fl fi : Int32} {a1 a2 a3 a4 a5 a6 a7 a8 a9 a10 a11 : Nat → Int32} {n k t m d : Nat} (hI : cs_I n k t m d a1 a2 a3 a4 a5 a6 a7 a8 a9 a10 a11) (hK : (fn = 0 ∧ m = 0) ∨ (fn = 1 ∧ cs_Kn n k t m d fe fc ff fl fi a5 a8 a9)) (H : ∀ u, post 1 u) :
    wpL_sums post (nI n, nI k, nI t, nI m, nI d, fn, fe, fc, ff, fl, fi, a1, a2, a3, a4, a5, a6, a7, a8, a9, a10, a11) := by
  unfold wpL_sums wpX_codes
  have hk : k ≤ 250 := hI.2.2.2.1
  have hm : m ≤ 6 := hI.2.1.1
  by_cases z : m = 0
  · refine pk_loop (σ := Unit) (fun fu i _ => wL_sums_9 post (nI k) fu 0 (nI i) (nI n) (nI k) (nI t) (nI m) (nI d) fn fe fc ff fl fi a1 a2 a3 a4 a5 a6 a7 a8 a9 a10 a11) (fun _ _ => True) k 0 () (by omega) trivial ?_ ?_
    · intro fu _ _
      have hK' : fn = 0 ∨ (fn = 1 ∧ cs_Kn n k t m d fe fc ff fl fi a5 a8 a9) := by
        rcases hK with h | h
        · exact Or.inl h.1
        · exact Or.inr h
      refine pk_le k k (fun _ => cs_count hI hK' (fun d fe fc ff fl fi z7 z8 z9 z10 z11 _ hKn => ?_)) (fun c => absurd c (by omega))
      exact br_t (hKn.2.1 z).symm (H _)
    · intro fu i _ hi _ hw
      refine pk_le k i (fun c => absurd c (by omega)) (fun _ => ?_)
      unfold wpX_endingIn
      exact br_f (nI_pos (by omega)) (pk_le k i (fun c => absurd c (by omega)) (fun _ => pk_eq m 0 (fun _ => nm_r (e' := 0) (by rfl) (nm_r (nI_1 i) (hw () trivial))) (fun c => absurd z c)))
  · rcases hK with h | ⟨h1, h2⟩
    · exact absurd h.2 z
    · subst h1
      obtain ⟨ed, ec⟩ := h2.2.2 (by omega)
      subst ed
      refine pk_loop (σ := Unit) (fun fu i _ => wL_sums_9 post (nI k) fu (cs_ct a5 a8 a9 i) (nI i) (nI d) (nI k) (nI t) (nI m) (nI d) 1 fe fc ff fl fi a1 a2 a3 a4 a5 a6 a7 a8 a9 a10 a11) (fun _ _ => True) k 0 () (by omega) trivial ?_ ?_
      · intro fu _ _
        exact pk_le k k (fun _ => cs_count1 (br_t ec.symm (H _))) (fun c => absurd c (by omega))
      · intro fu i _ hi _ hw
        exact pk_le k i (fun c => absurd c (by omega)) (fun _ => cs_end hI (by omega) hi (nm_r (e' := cs_ct a5 a8 a9 (i + 1)) rfl (nm_r (nI_1 i) (hw () trivial))))
/-! ### places -/
theorem cs_pl124 {post : Int32 → St1 → Prop} {fw fk ft fm fd fn fe fc ff fl fi : Int32} {a1 a2 a3 a4 a5 a6 a7 a8 a9 a10 a11 : Nat → Int32} {c : Nat} (hc : c ≤ 250) (z : Nat) (hz : z = if c = 1 then 1 else 0) (H : post 1 (fw, fk, ft, fm, fd, fn, fe, fc, ff, fl, fi, a1, a2, a3, a4, a5, a6, a7, a8, a9, a10, a11)) : wL_places_124 post (nI c) (nI z) fw fk ft fm fd fn fe fc ff fl fi a1 a2 a3 a4 a5 a6 a7 a8 a9 a10 a11 := by
  unfold wL_places_124
  refine pk_eq c 1 (fun g => ?_) (fun g => ?_)
  · rw [if_pos g] at hz
    subst hz
    unfold wL_places_134
    exact br_t rfl H
  · rw [if_neg g] at hz
    subst hz
    unfold wL_places_134
    exact br_t rfl H
theorem cs_places {post : Int32 → St1 → Prop} {fn fe fc ff fl fi : Int32} {a1 a2 a3 a4 a5 a6 a7 a8 a9 a10 a11 : Nat → Int32} {n k t m d : Nat} (hI : cs_I n k t m d a1 a2 a3 a4 a5 a6 a7 a8 a9 a10 a11) (hK : fn = 0 ∨ (fn = 1 ∧ cs_Kn n k t m d fe fc ff fl fi a5 a8 a9))
    (H : ∀ d fe fc ff fl fi z7 z8 z9 z10 z11, cs_I n k t m d a1 a2 a3 a4 a5 a6 z7 z8 z9 z10 z11 → cs_Kn n k t m d fe fc ff fl fi a5 z8 z9 → post 1 (nI n, nI k, nI t, nI m, nI d, 1, fe, fc, ff, fl, fi, a1, a2, a3, a4, a5, a6, z7, z8, z9, z10, z11)) :
    wpL_places post (nI n, nI k, nI t, nI m, nI d, fn, fe, fc, ff, fl, fi, a1, a2, a3, a4, a5, a6, a7, a8, a9, a10, a11) := by
  unfold wpL_places wpX_length
  refine cs_count hI hK (fun d fe fc ff fl fi z7 z8 z9 z10 z11 hI' hKn => cs_first1 (cs_last1 ?_))
  have HP := H d fe fc ff fl fi z7 z8 z9 z10 z11 hI' hKn
  have hn : n ≤ 60 := hI.1.2.1
  have hm : m ≤ 6 := hI.2.1.1
  have ht : t ≤ 250 := hI.2.2.2.2.1
  obtain ⟨⟨e, c, i, q1, q2, q3, q4, q5, q6, q7, q8, q9⟩, _⟩ := hKn
  subst q1 q2 q3
  unfold wpX_pattern
  refine br_f (nI_pos (by omega)) (pk_lt 250 t (fun z => absurd z (by omega)) (fun _ => ?_))
  unfold wpX_words
  refine pk_lt 60 n (fun z => absurd z (by omega)) (fun _ => cs_within1 ?_)
  refine pk_lt c i (fun z => absurd z (by omega)) (fun _ => cs_tail1 ?_)
  refine pk_lt m e (fun z => absurd z (by omega)) (fun _ => cs_tail1 ?_)
  refine br_t (nI_pos' (by omega)) (pk_eq c 0 (fun z => ?_) (fun z => ?_))
  · obtain ⟨r1, r2⟩ := q8 z
    exact br_t r1 (br_t r2 HP)
  · obtain ⟨F, G, r1, r2, r3, r4, r5⟩ := q9 (by omega)
    subst r1 r2
    refine br_f (nI_pos (by omega)) (pk_lt G F (fun z => absurd z (by omega)) (fun _ => pk_lt t (G + m) (fun z => absurd z (by omega)) (fun _ => pk_eq F G (fun g => ?_) (fun g => ?_)) rfl (nI_add G m)))
    · exact cs_pl124 (by omega) 1 (by rw [if_pos (r5.mp g)]) HP
    · exact cs_pl124 (by omega) 0 (by rw [if_neg (fun h => g (r5.mpr h))]) HP
end
section
/-! ### the constructor -/
theorem cs_init {post : St1 → Prop} (H : ∀ a1 a2 a3 a4, cs_I 4 0 0 0 0 a1 a2 a3 a4 (fun _ => 0) (fun _ => 0) (fun _ => 0) (fun _ => 0) (fun _ => 0) (fun _ => 0) (fun _ => 0) → post (nI 4, nI 0, nI 0, nI 0, nI 0, 0, 0, 0, 0, 0, 0, a1, a2, a3, a4, fun _ => 0, fun _ => 0, fun _ => 0, fun _ => 0, fun _ => 0, fun _ => 0, fun _ => 0)) :
    wpX_init post 11 2204 (0, 0, 0, 0, 0, 0, 0, 0, 0, 0, 0) := by
  unfold wpX_init
  refine ⟨by decide, by decide, by decide, by decide, by decide, by decide, by decide, by decide, by decide, by decide, by decide, by decide, by decide, by decide, by decide, by decide, by decide, by decide, by decide, by decide, by decide, by decide, ?_⟩
  refine pk_loop (σ := (Nat → Int32) × (Nat → Int32) × (Nat → Int32) × (Nat → Int32)) (fun fu i z => wX_init_104 post 11 2204 11 2204 4 0 0 0 0 0 0 0 0 0 0 fu (nI i) z.1 z.2.1 z.2.2.1 z.2.2.2 (fun _ => 0) (fun _ => 0) (fun _ => 0) (fun _ => 0) (fun _ => 0) (fun _ => 0) (fun _ => 0)) (fun i z => ∀ w, w < i → z.1 w = -1 ∧ z.2.1 w = nI w ∧ z.2.2.1 w = nI w ∧ z.2.2.2 w = nI 1) 4 0 (fun _ => 0, fun _ => 0, fun _ => 0, fun _ => 0) (by omega) (fun w hw => absurd hw (by omega)) ?_ ?_
  · intro fu z h
    obtain ⟨a1, a2, a3, a4⟩ := z
    refine pk_le 4 4 (fun _ => H a1 a2 a3 a4 ?_) (fun z => absurd z (by omega))
    refine ⟨⟨by omega, by omega, fun w hw => ?_⟩, ⟨by omega, fun j hj => absurd hj (by omega)⟩, ⟨by omega, fun z => absurd z (by omega)⟩, by omega, by omega, fun j hj => absurd hj (by omega), rfl⟩
    obtain ⟨q1, q2, q3, q4⟩ := h w hw
    exact ⟨w, w, 0, hw, q2, hw, q3, by omega, q4, Or.inl ⟨q1, rfl⟩⟩
  · intro fu i z hi h hw
    obtain ⟨a1, a2, a3, a4⟩ := z
    have ei : (nI i).toNatClampNeg = i := nI_clamp (by omega)
    have F : ∀ w, w < i + 1 → upd a1 i (-1) w = -1 ∧ upd a2 i (nI i) w = nI w ∧ upd a3 i (nI i) w = nI w ∧ upd a4 i (nI 1) w = nI 1 := by
      intro w hw'
      by_cases e : w = i
      · rw [e, pk_us, pk_us, pk_us, pk_us]
        exact ⟨rfl, rfl, rfl, rfl⟩
      · rw [pk_un e, pk_un e, pk_un e, pk_un e]
        exact h w (by omega)
    exact pk_le 4 i (fun z => absurd z (by omega)) (fun _ => ⟨pk_in i 60 (by omega), nm_r (e' := upd a1 i (-1)) (by rw [ei]) ⟨pk_in i 60 (by omega), nm_r (e' := upd a2 i (nI i)) (by rw [ei, cs_b8 _ (by omega)]) ⟨pk_in i 60 (by omega), nm_r (e' := upd a3 i (nI i)) (by rw [ei, cs_b8 _ (by omega)]) ⟨pk_in i 60 (by omega), nm_r (e' := upd a4 i (nI 1)) (by rw [ei]; rfl) (nm_r (nI_1 i) (hw (upd a1 i (-1), upd a2 i (nI i), upd a3 i (nI i), upd a4 i (nI 1)) F))⟩⟩⟩⟩)
/-! ### the law's loops -/
theorem cs_law55 {post : Int32 → Prop} {L : Nat} {xs : Nat → Int32} {kc ks : Nat} {fn fe fc ff fl fi : Int32} {a1 a2 a3 a4 a5 a6 a7 a8 a9 a10 a11 : Nat → Int32} {n k t m d : Nat} (hI : cs_I n k t m d a1 a2 a3 a4 a5 a6 a7 a8 a9 a10 a11) (hK : (fn = 0 ∧ m = 0) ∨ (fn = 1 ∧ cs_Kn n k t m d fe fc ff fl fi a5 a8 a9)) (H : post 1) :
    ∃ fu, wL_law_55 post L xs (nI t) kc ks (nI n) (nI k) (nI t) (nI m) (nI d) fn fe fc ff fl fi a1 a2 a3 a4 a5 a6 a7 a8 a9 a10 a11 fu (-1) := by
  have key : ∃ fu, wL_law_55 post L xs (nI t) kc ks (nI n) (nI k) (nI t) (nI m) (nI d) fn fe fc ff fl fi a1 a2 a3 a4 a5 a6 a7 a8 a9 a10 a11 fu (nI 0) := by
    refine pk_loop (σ := Unit) (fun fu i _ => wL_law_55 post L xs (nI t) kc ks (nI n) (nI k) (nI t) (nI m) (nI d) fn fe fc ff fl fi a1 a2 a3 a4 a5 a6 a7 a8 a9 a10 a11 fu (nI i)) (fun _ _ => True) 251 0 () (by omega) trivial ?_ ?_
    · intro fu _ _
      exact pk_le 251 251 (fun _ => cs_sums hI hK (fun u => H)) (fun z => absurd z (by omega))
    · intro fu i _ hi _ hw
      refine pk_le 251 i (fun z => absurd z (by omega)) (fun _ => cs_symbol (nI i) hI (fun z => absurd z (nI_pos (by omega))) (fun z1 z2 x hx => ?_) (fun z1 z2 => ?_))
      · refine br_f z1 (br_f (Int32.not_le.mpr z2) ?_)
        unfold wL_law_83
        exact br_f (by decide) (br_f (nI_pos (by omega)) (pk_le x 3 (fun _ => nm_r (nI_1 i) (hw () trivial)) (fun c => absurd c (by omega))))
      · refine br_f z1 (br_t (Int32.not_lt.mp z2) ?_)
        unfold wL_law_82 wL_law_83
        exact br_t rfl (br_t rfl (nm_r (nI_1 i) (hw () trivial)))
  obtain ⟨fu, h⟩ := key
  refine ⟨fu + 1, br_f (by decide) (cs_symbol (-1) hI (fun z => ?_) (fun z => absurd (by decide) z) (fun z => absurd (by decide) z))⟩
  refine br_t (by decide) ?_
  unfold wL_law_82 wL_law_83
  exact br_t rfl (br_t rfl (nm_r (e' := nI 0) (by decide) h))
theorem cs_law10 {post : Int32 → Prop} {L : Nat} {xs : Nat → Int32} {kc ks : Nat} (hL : L ≤ 260) (H : post 1) :
    ∀ (fu i n k t m d : Nat) (fn fe fc ff fl fi : Int32) (a1 a2 a3 a4 a5 a6 a7 a8 a9 a10 a11 : Nat → Int32), i ≤ L / 2 → L / 2 - i < fu → cs_I n k t m d a1 a2 a3 a4 a5 a6 a7 a8 a9 a10 a11 → ((fn = 0 ∧ m = 0) ∨ (fn = 1 ∧ cs_Kn n k t m d fe fc ff fl fi a5 a8 a9)) → wL_law_10 post L xs kc ks fu (nI (2 * i)) (nI n) (nI k) (nI t) (nI m) (nI d) fn fe fc ff fl fi a1 a2 a3 a4 a5 a6 a7 a8 a9 a10 a11 := by
  intro fu
  induction fu with
  | zero => intro i n k t m d fn fe fc ff fl fi a1 a2 a3 a4 a5 a6 a7 a8 a9 a10 a11 _ h; exact absurd h (by omega)
  | succ fu ih =>
    intro i n k t m d fn fe fc ff fl fi a1 a2 a3 a4 a5 a6 a7 a8 a9 a10 a11 hi hf hI hK
    have e2 : nI (2 * i) + 2 = nI (2 * (i + 1)) := by
      rw [show (2 : Int32) = nI 2 from rfl, nI_add, show 2 * i + 2 = 2 * (i + 1) by omega]
    have hK' : fn = 0 ∨ (fn = 1 ∧ cs_Kn n k t m d fe fc ff fl fi a5 a8 a9) := by
      rcases hK with h | h
      · exact Or.inl h.1
      · exact Or.inr h
    refine pk_le L (2 * i + 1) (fun z => ?_) (fun z => ⟨pk_in (2 * i) L (by omega), pk_in (2 * i + 1) L (by omega) (nI_1 _), cs_turn _ _ hI ?_ ?_⟩) rfl (nI_1 _)
    · unfold wpX_length
      exact cs_law55 hI hK H
    · exact cs_places hI hK' (fun d fe fc ff fl fi z7 z8 z9 z10 z11 hI' hKn => br_f (by decide) (nm_r e2 (ih (i + 1) n k t m d 1 fe fc ff fl fi _ _ _ _ _ _ _ _ _ _ _ (by omega) (by omega) hI' (Or.inr ⟨rfl, hKn⟩))))
    · intro n k t m d z1 z2 z3 z4 z5 z6 hI1
      exact cs_places hI1 (Or.inl rfl) (fun d fe fc ff fl fi z7 z8 z9 z10 z11 hI' hKn => br_f (by decide) (nm_r e2 (ih (i + 1) n k t m d 1 fe fc ff fl fi _ _ _ _ _ _ _ _ _ _ _ (by omega) (by omega) hI' (Or.inr ⟨rfl, hKn⟩))))
theorem i_vc (xs : Nat → Int32) (L : Nat) (hL : L ≤ 260) : wpL_law (fun r => r = 1) L xs := by
  unfold wpL_law
  refine ⟨11, 2204, by decide, by decide, cs_init (fun a1 a2 a3 a4 hI => ⟨L / 2 + 1, ?_⟩)⟩
  exact cs_law10 (post := fun r => r = 1) hL rfl (L / 2 + 1) 0 4 0 0 0 0 0 0 0 0 0 0 _ _ _ _ _ _ _ _ _ _ _ (by omega) (by omega) hI (Or.inl ⟨rfl, rfl⟩)
end
