section
/-- the change before the i-th one of a key: none, or the one before -/
def rk_b : Nat → Int32
  | 0 => -1
  | i + 1 => nI i
/-- the last change of key j, where n changes of key k stand -/
def rk_l (k n j : Nat) : Int32 := if j = k then rk_b n else -1
/-- n changes of key k: revision, key, value, whether put, the one before -/
def rk_C (k n : Nat) (pu va a1 a2 a3 a4 a7 : Nat → Int32) : Prop := ∀ i, i < n → a1 i = nI (i + 1) ∧ a2 i = nI k ∧ a3 i = va i ∧ a4 i = pu i ∧ a7 i = rk_b i
/-- the picture: n changes of key k, present revision e, nothing forgotten, no lease, no watch -/
def rk_P (k n e : Nat) (pu va : Nat → Int32) (u : St2) : Prop := match u with
  | (c, o, p, f, t, a1, a2, a3, a4, a5, a6, a7, a8, a9, a10, a11, a12, a13, a14, a15, a16, a17, a18, a19, a20, a21, a22, a23) => c = nI n ∧ o = 0 ∧ p = nI e ∧ f = 0 ∧ rk_C k n pu va a1 a2 a3 a4 a7 ∧ (∀ j, j < 16 → a8 j = rk_l k n j) ∧ (∀ j, j < 6 → a11 j = 0) ∧ (∀ j, j < 4 → a14 j = 0)
/-- the picture behind watch: what compact needs -/
def rk_Q (k n : Nat) (u : St2) : Prop := match u with
  | (c, o, p, f, t, a1, a2, a3, a4, a5, a6, a7, a8, a9, a10, a11, a12, a13, a14, a15, a16, a17, a18, a19, a20, a21, a22, a23) => c = nI n ∧ p = nI n ∧ f = 0 ∧ (∀ i, i < n → a1 i = nI (i + 1) ∧ a2 i = nI k ∧ a7 i = rk_b i) ∧ (∀ j, j < 16 → a8 j = rk_l k n j) ∧ (∀ j, j < 4 → ¬ a14 j = 0 → a19 j = 0)
/-- the key is there: its last change was a put -/
def rk_live (n : Nat) (pu : Nat → Int32) : Prop := ∃ m, n = m + 1 ∧ ¬ pu m = 0
theorem rk_ne {m : Nat} (hm : m < 2 ^ 31) : ¬ nI m = -1 := by
  intro h
  have h2 := congrArg Int32.toInt h
  rw [nI_toInt hm] at h2
  have h3 : (-1 : Int32).toInt = -1 := by decide
  omega
theorem rk_one : ¬ (1 : Int32) = 0 := by decide
theorem rk_bk0 {post : Int32 → Prop} {u : St2} {k : Nat} (hk : k < 16) (H : post 0) : wpX_badKey post u (nI k) := by
  obtain ⟨c, o, p, f, t, a1, a2, a3, a4, a5, a6, a7, a8, a9, a10, a11, a12, a13, a14, a15, a16, a17, a18, a19, a20, a21, a22, a23⟩ := u
  exact br_f (nI_pos (by omega)) (pk_lt k 16 (fun _ => H) (fun z => absurd z (by omega)))
theorem rk_bk1 {post : Int32 → Prop} {u : St2} {x : Int32} (hx : x < 0 ∨ ¬ x < 16) (H : post 1) : wpX_badKey post u x := by
  obtain ⟨c, o, p, f, t, a1, a2, a3, a4, a5, a6, a7, a8, a9, a10, a11, a12, a13, a14, a15, a16, a17, a18, a19, a20, a21, a22, a23⟩ := u
  exact br_c (fun _ => H) (fun z => br_c (fun z2 => absurd hx (fun y => y.elim z (fun w => w z2))) (fun _ => H))
theorem rk_key (x : Int32) : (x < 0 ∨ ¬ x < 16) ∨ ∃ k, k < 16 ∧ x = nI k := by
  rcases pk_ix x (n := 16) (by decide) with h | h | h
  · exact Or.inl (Or.inl h)
  · exact Or.inl (Or.inr (Int32.not_lt.mpr h))
  · exact Or.inr h
theorem rk_exists {post : Int32 → Prop} {u : St2} {k n e j : Nat} {pu va : Nat → Int32} (h : rk_P k n e pu va u) (hn : n ≤ 139) (hj : j < 16) (H1 : j = k → rk_live n pu → post 1) (H0 : ¬ (j = k ∧ rk_live n pu) → post 0) : wpX_exists post u (nI j) := by
  obtain ⟨c, o, p, f, t, a1, a2, a3, a4, a5, a6, a7, a8, a9, a10, a11, a12, a13, a14, a15, a16, a17, a18, a19, a20, a21, a22, a23⟩ := u
  obtain ⟨h1, h2, h3, h4, h5, h6, h7, h8⟩ := h
  have e8 := h6 j hj
  unfold wpX_exists
  dsimp only
  rw [nI_clamp (show j < 2 ^ 31 by omega), e8]
  unfold rk_l
  refine ⟨pk_in j 16 hj, ?_⟩
  by_cases hjk : j = k
  · rw [if_pos hjk]
    cases n with
    | zero => exact br_t rfl (H0 (fun z => by obtain ⟨m, hm, _⟩ := z.2; omega))
    | succ m =>
      have c4 := (h5 m (by omega)).2.2.2.1
      have cl : (rk_b (m + 1)).toNatClampNeg = m := nI_clamp (show m < 2 ^ 31 by omega)
      rw [cl, c4]
      exact br_f (rk_ne (m := m) (by omega)) ⟨pk_in j 16 hj, pk_in m 140 (by omega), br_c (fun z => H0 (fun y => by
        obtain ⟨_, m', hm', y'⟩ := y
        have : m = m' := by omega
        subst this
        exact y' z)) (fun z => H1 hjk ⟨m, rfl, z⟩)⟩
  · rw [if_neg hjk]
    exact br_t rfl (H0 (fun z => hjk z.1))
theorem rk_n114 {post : St2 → Prop} {c o p f t : Int32} {a1 a2 a3 a4 a5 a6 a7 a8 a9 a10 a11 a12 a13 a14 a15 a16 a17 a18 a19 a20 a21 a22 a23 : Nat → Int32} {k n : Nat} {x4 z0 : Int32} (hk : k < 16) (hn : n ≤ 100) (H : ∀ a6', post (c + 1, o, p, f, t, a1, a2, a3, a4, a5, a6', upd a7 n x4, upd a8 k (nI n), a9, a10, a11, a12, a13, a14, a15, a16, a17, a18, a19, a20, a21, a22, a23)) : wX_note_114 post (nI k) x4 (nI n) z0 (nI n) c o p f t a1 a2 a3 a4 a5 a6 a7 a8 a9 a10 a11 a12 a13 a14 a15 a16 a17 a18 a19 a20 a21 a22 a23 := by
  unfold wX_note_114
  rw [nI_clamp (show n < 2 ^ 31 by omega), nI_clamp (show k < 2 ^ 31 by omega)]
  exact ⟨pk_in n 140 (by omega), nm_e ⟨pk_in n 140 (by omega), nm_e ⟨pk_in k 16 hk, nm_e (nm_e (H _))⟩⟩⟩
theorem rk_n89 {post : St2 → Prop} {c o p f t : Int32} {a1 a2 a3 a4 a5 a6 a7 a8 a9 a10 a11 a12 a13 a14 a15 a16 a17 a18 a19 a20 a21 a22 a23 : Nat → Int32} {k n : Nat} {x5 z0 : Int32} (hk : k < 16) (hn : n ≤ 100) (h5 : ¬ x5 = 0 → 0 < n) (H : ∀ a5' a6', post (c + 1, o, p, f, t, a1, a2, a3, a4, a5', a6', upd a7 n (rk_b n), upd a8 k (nI n), a9, a10, a11, a12, a13, a14, a15, a16, a17, a18, a19, a20, a21, a22, a23)) : wX_note_89 post (nI k) (rk_b n) x5 (nI n) z0 (nI n) c o p f t a1 a2 a3 a4 a5 a6 a7 a8 a9 a10 a11 a12 a13 a14 a15 a16 a17 a18 a19 a20 a21 a22 a23 := by
  unfold wX_note_89
  refine ⟨pk_in n 140 (by omega), nm_e (br_c (fun _ => rk_n114 hk hn (H _)) (fun z => ⟨?_, rk_n114 hk hn (H _)⟩))⟩
  have := h5 z
  obtain ⟨m, hm⟩ : ∃ m, n = m + 1 := ⟨n - 1, by omega⟩
  subst hm
  exact pk_in m 140 (by omega)
theorem rk_n63 {post : St2 → Prop} {c o p f t : Int32} {a1 a2 a3 a4 a5 a6 a7 a8 a9 a10 a11 a12 a13 a14 a15 a16 a17 a18 a19 a20 a21 a22 a23 : Nat → Int32} {k n : Nat} {x5 z0 : Int32} (hk : k < 16) (hn : n ≤ 100) (h5 : ¬ x5 = 0 → 0 < n) (H : ∀ a5' a6', post (c + 1, o, p, f, t, a1, a2, upd a3 n z0, a4, a5', a6', upd a7 n (rk_b n), upd a8 k (nI n), a9, a10, a11, a12, a13, a14, a15, a16, a17, a18, a19, a20, a21, a22, a23)) : wX_note_63 post (nI k) (rk_b n) x5 (nI n) z0 (nI n) c o p f t a1 a2 a3 a4 a5 a6 a7 a8 a9 a10 a11 a12 a13 a14 a15 a16 a17 a18 a19 a20 a21 a22 a23 := by
  unfold wX_note_63
  rw [nI_clamp (show n < 2 ^ 31 by omega)]
  refine ⟨pk_in n 140 (by omega), nm_e (br_c (fun _ => rk_n89 hk hn h5 H) (fun z => ⟨?_, rk_n89 hk hn h5 H⟩))⟩
  have := h5 z
  obtain ⟨m, hm⟩ : ∃ m, n = m + 1 := ⟨n - 1, by omega⟩
  subst hm
  exact pk_in m 140 (by omega)
theorem rk_note {post : St2 → Prop} {u : St2} {k n : Nat} {pu va : Nat → Int32} {b x v : Int32} (h : rk_P k n (n + 1) pu va u) (hk : k < 16) (hn : n ≤ 100) (hb : vp_nar .boolean b = b) (hv0 : b = 0 → v = 0) (hv1 : ¬ b = 0 → v = x) (H : ∀ u', rk_P k (n + 1) (n + 1) (upd pu n b) (upd va n v) u' → post u') : wpX_note post u (nI k) b x := by
  obtain ⟨c, o, p, f, t, a1, a2, a3, a4, a5, a6, a7, a8, a9, a10, a11, a12, a13, a14, a15, a16, a17, a18, a19, a20, a21, a22, a23⟩ := u
  have h' := h
  obtain ⟨h1, h2, h3, h4, h5, h6, h7, h8⟩ := h'
  subst h1 h3
  have e8 : a8 k = rk_b n := (h6 k hk).trans (if_pos rfl)
  have fin : ∀ a5' a6', post (nI n + 1, o, nI (n + 1), f, t, upd a1 n (nI (n + 1)), upd a2 n (nI k), upd a3 n v, upd a4 n b, a5', a6', upd a7 n (rk_b n), upd a8 k (nI n), a9, a10, a11, a12, a13, a14, a15, a16, a17, a18, a19, a20, a21, a22, a23) := by
    intro a5' a6'
    refine H _ ⟨nI_1 n, h2, rfl, h4, ?_, ?_, h7, h8⟩
    · intro i hi
      by_cases e : i = n
      · subst e
        rw [pk_us, pk_us, pk_us, pk_us, pk_us, pk_us, pk_us]
        exact ⟨rfl, rfl, rfl, rfl, rfl⟩
      · rw [pk_un e, pk_un e, pk_un e, pk_un e, pk_un e, pk_un e, pk_un e]
        exact h5 i (by omega)
    · intro j hj
      unfold rk_l
      by_cases e : j = k
      · subst e
        rw [pk_us, if_pos rfl]
        rfl
      · rw [pk_un e, if_neg e]
        have := h6 j hj
        unfold rk_l at this
        rw [if_neg e] at this
        exact this
  have step : ∀ r_3 : Int32, (¬ r_3 = 0 → 0 < n) → ((b = 0 → wX_note_63 post (nI k) (rk_b n) r_3 (nI n) 0 (nI n) (nI n) o (nI (n + 1)) f t (upd a1 n (nI (n + 1))) (upd a2 n (nI k)) a3 (upd a4 n b) a5 a6 a7 a8 a9 a10 a11 a12 a13 a14 a15 a16 a17 a18 a19 a20 a21 a22 a23) ∧ (¬ b = 0 → wX_note_63 post (nI k) (rk_b n) r_3 (nI n) x (nI n) (nI n) o (nI (n + 1)) f t (upd a1 n (nI (n + 1))) (upd a2 n (nI k)) a3 (upd a4 n b) a5 a6 a7 a8 a9 a10 a11 a12 a13 a14 a15 a16 a17 a18 a19 a20 a21 a22 a23)) := by
    intro r_3 h3
    refine br_c (fun z => rk_n63 hk hn h3 ?_) (fun z => rk_n63 hk hn h3 ?_)
    · rw [← hv0 z]
      exact fin
    · rw [← hv1 z]
      exact fin
  unfold wpX_note
  dsimp only
  rw [nI_clamp (show n < 2 ^ 31 by omega), nI_clamp (show k < 2 ^ 31 by omega), e8, hb]
  refine ⟨pk_in k 16 hk, nm_e (rk_exists h (by omega) hk (fun _ hl => ?_) (fun _ => ?_))⟩
  · exact ⟨pk_in n 140 (by omega), nm_e ⟨pk_in n 140 (by omega), nm_e ⟨pk_in n 140 (by omega), nm_e (step 1 (fun _ => by obtain ⟨m, hm, _⟩ := hl; omega))⟩⟩⟩
  · exact ⟨pk_in n 140 (by omega), nm_e ⟨pk_in n 140 (by omega), nm_e ⟨pk_in n 140 (by omega), nm_e (step 0 (fun z => absurd rfl z))⟩⟩⟩
theorem rk_putNow {post : Int32 → St2 → Prop} {u : St2} {k n : Nat} {pu va : Nat → Int32} {x l : Int32} (h : rk_P k n n pu va u) (hk : k < 16) (hn : n ≤ 100) (H : ∀ u', rk_P k (n + 1) (n + 1) (upd pu n 1) (upd va n x) u' → post (nI (n + 1)) u') : wpX_putNow post u (nI k) x l := by
  obtain ⟨c, o, p, f, t, a1, a2, a3, a4, a5, a6, a7, a8, a9, a10, a11, a12, a13, a14, a15, a16, a17, a18, a19, a20, a21, a22, a23⟩ := u
  obtain ⟨h1, h2, h3, h4, h5, h6, h7, h8⟩ := h
  unfold wpX_putNow
  dsimp only
  refine nm_r (e' := nI (n + 1)) (by rw [h3, nI_1]) (rk_note (k := k) (n := n) (pu := pu) (va := va) (v := x) ⟨h1, h2, rfl, h4, h5, h6, h7, h8⟩ hk hn rfl (fun z => absurd z rk_one) (fun _ => rfl) ?_)
  rintro ⟨c', o', p', f', t', a1', a2', a3', a4', a5', a6', a7', a8', a9', a10', a11', a12', a13', a14', a15', a16', a17', a18', a19', a20', a21', a22', a23'⟩ h'
  obtain ⟨g1, g2, g3, g4, g5, g6, g7, g8⟩ := h'
  subst g3
  exact ⟨pk_in k 16 hk, nm_e (H _ ⟨g1, g2, rfl, g4, g5, g6, g7, g8⟩)⟩
theorem rk_eraseNow {post : St2 → Prop} {u : St2} {k n : Nat} {pu va : Nat → Int32} (h : rk_P k n (n + 1) pu va u) (hk : k < 16) (hn : n ≤ 100) (H : ∀ u', rk_P k (n + 1) (n + 1) (upd pu n 0) (upd va n 0) u' → post u') : wpX_eraseNow post u (nI k) := by
  obtain ⟨c, o, p, f, t, a1, a2, a3, a4, a5, a6, a7, a8, a9, a10, a11, a12, a13, a14, a15, a16, a17, a18, a19, a20, a21, a22, a23⟩ := u
  unfold wpX_eraseNow
  dsimp only
  refine rk_note (v := 0) h hk hn rfl (fun _ => rfl) (fun z => absurd rfl z) ?_
  rintro ⟨c', o', p', f', t', a1', a2', a3', a4', a5', a6', a7', a8', a9', a10', a11', a12', a13', a14', a15', a16', a17', a18', a19', a20', a21', a22', a23'⟩ h'
  obtain ⟨g1, g2, g3, g4, g5, g6, g7, g8⟩ := h'
  exact ⟨pk_in k 16 hk, nm_e (H _ ⟨g1, g2, g3, g4, g5, g6, g7, g8⟩)⟩
end
section
/-! what the law itself computes, in its own order -/
def rk_kf (k : Int32) : Int32 := if k < 0 then 0 else if 15 < k then 0 else 1
def rk_mf (kf l : Int32) : Int32 := if kf = 0 then 0 else if l = -1 then 1 else 0
def rk_af (kf mf r : Int32) : Int32 := if kf = 0 then 0 else if mf = 0 then (if r = 0 then 1 else 0) else if r = 1 then 1 else 0
def rk_bit (z : Int32) : Int32 := if z = 0 then 0 else 1
def rk_th (mf af : Int32) : Int32 := if mf = 0 then (if af = 0 then 0 else 1) else 1
def rk_at (r nw : Int32) : Int32 := if r = -1 then nw else r
def rk_own (bd x mf af y : Int32) : Int32 := if y = 0 then bd - 2 else if y = 1 then (if mf = 0 then (if af = 0 then bd - 2 else 5) else x) else 5
def rk_gn (rg th w k : Int32) : Int32 := if rg = 0 then 0 else if th = 0 then 0 else if w < k then 0 else 1
def rk_la (gn nw : Int32) : Int32 := if gn = 0 then nw else nw + 1
def rk_fr (r la : Int32) : Int32 := if r = -1 then la + 1 else r
def rk_eput (bd kf l : Int32) : Int32 := if kf = 0 then bd else if l < -1 then bd else if l ≤ 5 then (if l < 0 then 1 else bd - 2) else bd
def rk_esw (bd kf af nw : Int32) : Int32 := if kf = 0 then bd else if af = 0 then bd - 2 else nw
def rk_eva (bd kf r y nw ow : Int32) : Int32 := if kf = 0 then bd else if -1 ≤ r then (if y ≤ nw then ow else bd - 4) else bd - 3
def rk_eer (bd rg gn : Int32) : Int32 := if rg = 0 then bd else if gn = 0 then bd - 2 else 1
def rk_ewa (bd w fr : Int32) : Int32 := if w < 0 then bd else if w ≤ 3 then (if fr ≤ 0 then bd - 3 else 0) else bd
def rk_eco (bd r la : Int32) : Int32 := if 0 ≤ r then (if r ≤ la then la - r else bd - 4) else bd - 3
/-- the law's checks, where each answer is what the law asks for -/
theorem rk_chk {post : Int32 → St0 → Prop} {mc ms kc ks : Nat} {x0 x1 x2 x3 x4 x6 x7 x8 x9 x10 x11 x12 x13 x14 x15 x16 x17 x18 x19 x20 x21 x22 x23 : Int32}
    (e14 : x14 = rk_mf x13 x2) (e15 : x15 = rk_af x13 x14 x3) (e16 : x16 = rk_bit x14 + rk_bit x15) (e17 : x17 = rk_th x14 x15) (e18 : x18 = rk_at x3 x16) (e19 : x19 = rk_own x12 x1 x14 x15 x18)
    (e20 : x20 = rk_kf x4) (e21 : x21 = rk_gn x20 x17 x4 x0) (e22 : x22 = rk_la x21 x16) (e23 : x23 = rk_fr x3 x22)
    (h6 : x6 = rk_eput x12 x13 x2) (h7 : x7 = rk_esw x12 x13 x15 x16) (h8 : x8 = rk_eva x12 x13 x3 x18 x16 x19) (h9 : x9 = rk_eer x12 x20 x21) (h10 : x10 = rk_ewa x12 x4 x23) (h11 : x11 = rk_eco x12 x3 x22)
    (H : post 1 ()) : wL_lawOf_88 post mc ms x0 x1 x2 x3 x4 x6 x7 x8 x9 x10 x11 x12 x13 kc ks := by
  have s509 : ∀ z, z = rk_eco x12 x3 x22 → wL_lawOf_509 post mc ms z x11 kc ks := fun z hz => br_t (h11.trans hz.symm) H
  have s476 : ∀ z, z = rk_ewa x12 x4 x23 → wL_lawOf_476 post mc ms x3 x11 x12 x22 z x10 kc ks := fun z hz => br_t (h10.trans hz.symm)
    (br_c (fun a => br_c (fun b => s509 _ (by unfold rk_eco; rw [if_pos a, if_pos b])) (fun b => s509 _ (by unfold rk_eco; rw [if_pos a, if_neg b]))) (fun a => s509 _ (by unfold rk_eco; rw [if_neg a])))
  have s442 : ∀ z, z = rk_eer x12 x20 x21 → wL_lawOf_442 post mc ms x3 x4 x10 x11 x12 x22 x23 z x9 kc ks := fun z hz => br_t (h9.trans hz.symm)
    (br_c (fun a => s476 _ (by unfold rk_ewa; rw [if_pos a]))
      (fun a => br_c (fun b => br_c (fun d => s476 _ (by unfold rk_ewa; rw [if_neg a, if_pos b, if_pos d])) (fun d => s476 _ (by unfold rk_ewa; rw [if_neg a, if_pos b, if_neg d])))
        (fun b => s476 _ (by unfold rk_ewa; rw [if_neg a, if_neg b]))))
  have s414 : ∀ z, z = rk_eva x12 x13 x3 x18 x16 x19 → wL_lawOf_414 post mc ms x3 x4 x9 x10 x11 x12 x20 x21 x22 x23 z x8 kc ks := fun z hz => br_t (h8.trans hz.symm)
    (br_c (fun a => s442 _ (by unfold rk_eer; rw [if_pos a]))
      (fun a => br_c (fun b => s442 _ (by unfold rk_eer; rw [if_neg a, if_pos b])) (fun b => s442 _ (by unfold rk_eer; rw [if_neg a, if_neg b]))))
  have s371 : ∀ z, z = rk_esw x12 x13 x15 x16 → wL_lawOf_371 post mc ms x3 x4 x8 x9 x10 x11 x12 x13 x16 x18 x19 x20 x21 x22 x23 z x7 kc ks := fun z hz => br_t (h7.trans hz.symm)
    (br_c (fun a => s414 _ (by unfold rk_eva; rw [if_pos a]))
      (fun a => br_c (fun b => br_c (fun d => s414 _ (by unfold rk_eva; rw [if_neg a, if_pos b, if_pos d])) (fun d => s414 _ (by unfold rk_eva; rw [if_neg a, if_pos b, if_neg d])))
        (fun b => s414 _ (by unfold rk_eva; rw [if_neg a, if_neg b]))))
  have s342 : ∀ z, z = rk_eput x12 x13 x2 → wL_lawOf_342 post mc ms x3 x4 x7 x8 x9 x10 x11 x12 x13 x15 x16 x18 x19 x20 x21 x22 x23 z x6 kc ks := fun z hz => br_t (h6.trans hz.symm)
    (br_c (fun a => s371 _ (by unfold rk_esw; rw [if_pos a]))
      (fun a => br_c (fun b => s371 _ (by unfold rk_esw; rw [if_neg a, if_pos b])) (fun b => s371 _ (by unfold rk_esw; rw [if_neg a, if_neg b]))))
  have s306 : ∀ z, z = rk_fr x3 x22 → wL_lawOf_306 post mc ms x2 x3 x4 x6 x7 x8 x9 x10 x11 x12 x13 x15 x16 x18 x19 x20 x21 x22 z kc ks := by
    intro z hz
    rw [hz, ← e23]
    exact br_c (fun a => s342 _ (by unfold rk_eput; rw [if_pos a]))
      (fun a => br_c (fun b => s342 _ (by unfold rk_eput; rw [if_neg a, if_pos b]))
        (fun b => br_c (fun d => br_c (fun g => s342 _ (by unfold rk_eput; rw [if_neg a, if_neg b, if_pos d, if_pos g])) (fun g => s342 _ (by unfold rk_eput; rw [if_neg a, if_neg b, if_pos d, if_neg g])))
          (fun d => s342 _ (by unfold rk_eput; rw [if_neg a, if_neg b, if_neg d]))))
  have s291 : ∀ z, z = rk_la x21 x16 → wL_lawOf_291 post mc ms x2 x3 x4 x6 x7 x8 x9 x10 x11 x12 x13 x15 x16 x18 x19 x20 x21 z kc ks := by
    intro z hz
    rw [hz, ← e22]
    exact br_c (fun a => s306 _ (by unfold rk_fr; rw [if_pos a])) (fun a => s306 _ (by unfold rk_fr; rw [if_neg a]))
  have s275 : ∀ z, z = rk_gn x20 x17 x4 x0 → wL_lawOf_275 post mc ms x2 x3 x4 x6 x7 x8 x9 x10 x11 x12 x13 x15 x16 x18 x19 x20 z kc ks := by
    intro z hz
    rw [hz, ← e21]
    exact br_c (fun a => s291 _ (by unfold rk_la; rw [if_pos a])) (fun a => s291 _ (by unfold rk_la; rw [if_neg a]))
  have s252 : ∀ z, z = rk_kf x4 → wL_lawOf_252 post mc ms x0 x2 x3 x4 x6 x7 x8 x9 x10 x11 x12 x13 x15 x16 x17 x18 x19 z kc ks := by
    intro z hz
    rw [hz, ← e20]
    exact br_c (fun a => s275 _ (by unfold rk_gn; rw [if_pos a]))
      (fun a => br_c (fun b => s275 _ (by unfold rk_gn; rw [if_neg a, if_pos b]))
        (fun b => br_c (fun d => s275 _ (by unfold rk_gn; rw [if_neg a, if_neg b, if_pos d])) (fun d => s275 _ (by unfold rk_gn; rw [if_neg a, if_neg b, if_neg d]))))
  have s233 : ∀ z, z = rk_own x12 x1 x14 x15 x18 → wL_lawOf_233 post mc ms x0 x2 x3 x4 x6 x7 x8 x9 x10 x11 x12 x13 x15 x16 x17 x18 z kc ks := by
    intro z hz
    rw [hz, ← e19]
    exact br_c (fun a => s252 _ (by unfold rk_kf; rw [if_pos a])) (fun a => br_c (fun b => s252 _ (by unfold rk_kf; rw [if_neg a, if_pos b])) (fun b => s252 _ (by unfold rk_kf; rw [if_neg a, if_neg b])))
  have s187 : ∀ z, z = rk_at x3 x16 → wL_lawOf_187 post mc ms x0 x1 x2 x3 x4 x6 x7 x8 x9 x10 x11 x12 x13 x14 x15 x16 x17 z kc ks := by
    intro z hz
    rw [hz, ← e18]
    exact br_c (fun a => s233 _ (by unfold rk_own; rw [if_pos a]))
      (fun a => br_c (fun b => br_c (fun d => br_c (fun g => s233 _ (by unfold rk_own; rw [if_neg a, if_pos b, if_pos d, if_pos g])) (fun g => s233 _ (by unfold rk_own; rw [if_neg a, if_pos b, if_pos d, if_neg g])))
          (fun d => s233 _ (by unfold rk_own; rw [if_neg a, if_pos b, if_neg d])))
        (fun b => s233 _ (by unfold rk_own; rw [if_neg a, if_neg b])))
  have s174 : ∀ z, z = rk_th x14 x15 → wL_lawOf_174 post mc ms x0 x1 x2 x3 x4 x6 x7 x8 x9 x10 x11 x12 x13 x14 x15 x16 z kc ks := by
    intro z hz
    rw [hz, ← e17]
    exact br_c (fun a => s187 _ (by unfold rk_at; rw [if_pos a])) (fun a => s187 _ (by unfold rk_at; rw [if_neg a]))
  have s156 : ∀ z y, z = rk_bit x15 → y = rk_bit x14 → wL_lawOf_156 post mc ms x0 x1 x2 x3 x4 x6 x7 x8 x9 x10 x11 x12 x13 x14 x15 z y kc ks := by
    intro z y hz hy
    refine nm_r (e' := x16) (by rw [hz, hy, e16]) ?_
    exact br_c (fun a => br_c (fun b => s174 _ (by unfold rk_th; rw [if_pos a, if_pos b])) (fun b => s174 _ (by unfold rk_th; rw [if_pos a, if_neg b]))) (fun a => s174 _ (by unfold rk_th; rw [if_neg a]))
  have s146 : ∀ z, z = rk_bit x14 → wL_lawOf_146 post mc ms x0 x1 x2 x3 x4 x6 x7 x8 x9 x10 x11 x12 x13 x14 x15 z kc ks := fun z hz =>
    br_c (fun a => s156 _ _ (by unfold rk_bit; rw [if_pos a]) hz) (fun a => s156 _ _ (by unfold rk_bit; rw [if_neg a]) hz)
  have s134 : ∀ z, z = rk_af x13 x14 x3 → wL_lawOf_134 post mc ms x0 x1 x2 x3 x4 x6 x7 x8 x9 x10 x11 x12 x13 x14 z kc ks := by
    intro z hz
    rw [hz, ← e15]
    exact br_c (fun a => s146 _ (by unfold rk_bit; rw [if_pos a])) (fun a => s146 _ (by unfold rk_bit; rw [if_neg a]))
  have s105 : ∀ z, z = rk_mf x13 x2 → wL_lawOf_105 post mc ms x0 x1 x2 x3 x4 x6 x7 x8 x9 x10 x11 x12 x13 z kc ks := by
    intro z hz
    rw [hz, ← e14]
    exact br_c (fun a => s134 _ (by unfold rk_af; rw [if_pos a]))
      (fun a => br_c (fun b => br_c (fun d => s134 _ (by unfold rk_af; rw [if_neg a, if_pos b, if_pos d])) (fun d => s134 _ (by unfold rk_af; rw [if_neg a, if_pos b, if_neg d])))
        (fun b => br_c (fun d => s134 _ (by unfold rk_af; rw [if_neg a, if_neg b, if_pos d])) (fun d => s134 _ (by unfold rk_af; rw [if_neg a, if_neg b, if_neg d]))))
  exact br_c (fun a => s105 _ (by unfold rk_mf; rw [if_pos a])) (fun a => br_c (fun b => s105 _ (by unfold rk_mf; rw [if_neg a, if_pos b])) (fun b => s105 _ (by unfold rk_mf; rw [if_neg a, if_neg b])))
end
section
theorem rk_t (a b : Int32) : (a < b ↔ a.toInt < b.toInt) ∧ (a ≤ b ↔ a.toInt ≤ b.toInt) ∧ (a = b ↔ a.toInt = b.toInt) := ⟨Int32.lt_iff_toInt_lt, Int32.le_iff_toInt_le, Int32.toInt_inj.symm⟩
theorem rk_lits : (-1 : Int32).toInt = -1 ∧ (0 : Int32).toInt = 0 ∧ (1 : Int32).toInt = 1 ∧ (3 : Int32).toInt = 3 ∧ (4 : Int32).toInt = 4 ∧ (5 : Int32).toInt = 5 ∧ (6 : Int32).toInt = 6 ∧ (15 : Int32).toInt = 15 ∧ (16 : Int32).toInt = 16 := by decide
theorem rk_c1 {l : Int32} (a : ¬ l = -1) (b : l < 0) : l < -1 := by
  have e := rk_lits
  rw [(rk_t _ _).2.2] at a
  rw [(rk_t _ _).1] at b ⊢
  omega
theorem rk_c2 {l : Int32} (b : l < 6) : l ≤ 5 := by
  have e := rk_lits
  rw [(rk_t _ _).1] at b
  rw [(rk_t _ _).2.1]
  omega
theorem rk_c3 {l : Int32} (b : ¬ l < 6) : ¬ l ≤ 5 ∧ ¬ l < -1 := by
  have e := rk_lits
  rw [(rk_t _ _).1] at b
  rw [(rk_t _ _).2.1, (rk_t _ _).1]
  omega
theorem rk_c4 {l : Int32} (b : ¬ l < 0) : ¬ l < -1 := by
  have e := rk_lits
  rw [(rk_t _ _).1] at b ⊢
  omega
theorem rk_c5 {x : Int32} (b : ¬ x < 16) : 15 < x := by
  have e := rk_lits
  rw [(rk_t _ _).1] at b ⊢
  omega
theorem rk_c6 {r : Int32} (b : ¬ 0 ≤ r) (a : ¬ r = -1) : ¬ -1 ≤ r := by
  have e := rk_lits
  rw [(rk_t _ _).2.1] at b ⊢
  rw [(rk_t _ _).2.2] at a
  omega
theorem rk_c7 {r : Int32} (b : 0 ≤ r) : -1 ≤ r ∧ ¬ r = -1 := by
  have e := rk_lits
  rw [(rk_t _ _).2.1] at b ⊢
  rw [(rk_t _ _).2.2]
  omega
theorem rk_c8 {r : Int32} (b : 0 ≤ r) : ¬ r < 0 := Int32.not_lt.mpr b
theorem rk_c9 {n : Nat} (hn : n < 2 ^ 31) : -1 ≤ nI n := (rk_c7 (nI_pos' hn)).1
theorem rk_c10 {w : Int32} (b : ¬ w < 4) : ¬ w ≤ 3 ∧ ¬ w < 0 := by
  have e := rk_lits
  rw [(rk_t _ _).1] at b
  rw [(rk_t _ _).2.1, (rk_t _ _).1]
  omega
theorem rk_kf1 {k : Nat} (hk : k < 16) : rk_kf (nI k) = 1 := by
  have h15 : ¬ (15 : Int32) < nI k := nI_nlt (a := 15) (b := k) (by omega) (by omega)
  unfold rk_kf
  rw [if_neg (nI_pos (by omega)), if_neg h15]
theorem rk_kf0 {x : Int32} (hx : x < 0 ∨ ¬ x < 16) : rk_kf x = 0 := by
  unfold rk_kf
  by_cases h : x < 0
  · rw [if_pos h]
  · rw [if_neg h, if_pos (rk_c5 (hx.resolve_left h))]
/-- behind put: mf is 'made' -/
def rk_H1 (k x mf : Int32) (u : St2) : Prop := ∃ (kk n : Nat) (pu va : Nat → Int32), kk < 16 ∧ rk_P kk n n pu va u ∧ n ≤ 1 ∧ mf = nI n ∧ ((rk_kf k = 0 ∧ (k < 0 ∨ ¬ k < 16) ∧ n = 0) ∨ (rk_kf k = 1 ∧ k = nI kk)) ∧ (∀ i, i < n → pu i = 1 ∧ va i = x)
/-- behind swap: af is 'again' -/
def rk_H2 (k x mf af : Int32) (u : St2) : Prop := ∃ (kk n : Nat) (pu va : Nat → Int32), kk < 16 ∧ rk_P kk n n pu va u ∧ n ≤ 2 ∧ rk_bit mf + rk_bit af = nI n ∧ ((rk_kf k = 0 ∧ (k < 0 ∨ ¬ k < 16) ∧ n = 0) ∨ (rk_kf k = 1 ∧ k = nI kk)) ∧ (∀ i, i < n → ¬ pu i = 0) ∧ (∀ m, m < n → rk_own (-1000000001) x mf af (nI (m + 1)) = va m) ∧ rk_th mf af = (if n = 0 then 0 else 1)
/-- behind erase: la is the last revision -/
def rk_H3 (la : Int32) (u : St2) : Prop := ∃ (kk n : Nat) (pu va : Nat → Int32), kk < 16 ∧ rk_P kk n n pu va u ∧ n ≤ 3 ∧ la = nI n
/-- behind watch -/
def rk_H4 (la : Int32) (u : St2) : Prop := ∃ (kk n : Nat), kk < 16 ∧ rk_Q kk n u ∧ n ≤ 3 ∧ la = nI n
theorem rk_bl {post : Int32 → Prop} {u : St2} {l : Int32} (H1 : l < 0 → post 1) (H2 : ¬ l < 0 → l < 6 → post 0) (H3 : ¬ l < 6 → post 1) : wpX_badLease post u l := by
  obtain ⟨c, o, p, f, t, a1, a2, a3, a4, a5, a6, a7, a8, a9, a10, a11, a12, a13, a14, a15, a16, a17, a18, a19, a20, a21, a22, a23⟩ := u
  exact br_c H1 (fun z => br_c (H2 z) H3)
theorem rk_rem {c o : Int32} {n m : Nat} (h1 : c = nI n) (h2 : o = 0) : c - o + nI m = nI (n + m) := by
  rw [h1, h2, Int32.sub_zero, nI_add]
theorem rk_put41 {post : Int32 → St2 → Prop} {c o p f t : Int32} {a1 a2 a3 a4 a5 a6 a7 a8 a9 a10 a11 a12 a13 a14 a15 a16 a17 a18 a19 a20 a21 a22 a23 : Nat → Int32} {k n : Nat} {pu va : Nat → Int32} {x l : Int32} (h : rk_P k n n pu va (c, o, p, f, t, a1, a2, a3, a4, a5, a6, a7, a8, a9, a10, a11, a12, a13, a14, a15, a16, a17, a18, a19, a20, a21, a22, a23)) (hk : k < 16) (hn : n ≤ 90) (H : ∀ u', rk_P k (n + 1) (n + 1) (upd pu n 1) (upd va n x) u' → post (nI (n + 1)) u') : wX_put_41 post (nI k) x l c o p f t a1 a2 a3 a4 a5 a6 a7 a8 a9 a10 a11 a12 a13 a14 a15 a16 a17 a18 a19 a20 a21 a22 a23 := by
  have h' := h
  obtain ⟨h1, h2, _⟩ := h'
  have hr : c - o < 100 := by
    rw [h1, h2, Int32.sub_zero]
    exact nI_lt (b := 100) (by omega) (by omega)
  refine br_t (c := c - o < 100) hr (rk_putNow h hk (by omega) ?_)
  rintro ⟨c', o', p', f', t', a1', a2', a3', a4', a5', a6', a7', a8', a9', a10', a11', a12', a13', a14', a15', a16', a17', a18', a19', a20', a21', a22', a23'⟩ h'
  exact H _ h'
theorem rk_put_s {post : Int32 → St2 → Prop} {u : St2} {k x l : Int32} (h : ∀ kk, kk < 16 → rk_P kk 0 0 (fun _ => 0) (fun _ => 0) u) (H : ∀ u', rk_H1 k x (rk_mf (rk_kf k) l) u' → post (rk_eput (-1000000001) (rk_kf k) l) u') : wpX_put post u k x l := by
  obtain ⟨c, o, p, f, t, a1, a2, a3, a4, a5, a6, a7, a8, a9, a10, a11, a12, a13, a14, a15, a16, a17, a18, a19, a20, a21, a22, a23⟩ := u
  unfold wpX_put
  dsimp only
  rcases rk_key k with hk | ⟨kk, hk, rfl⟩
  · have e := rk_kf0 hk
    have H' := H (c, o, p, f, t, a1, a2, a3, a4, a5, a6, a7, a8, a9, a10, a11, a12, a13, a14, a15, a16, a17, a18, a19, a20, a21, a22, a23) ⟨0, 0, _, _, by omega, h 0 (by omega), by omega, by rw [e]; exact if_pos rfl, Or.inl ⟨e, hk, rfl⟩, fun i hi => absurd hi (by omega)⟩
    have e0 : rk_eput (-1000000001) 0 l = -1000000001 := if_pos rfl
    rw [e, e0] at H'
    exact rk_bk1 hk (br_f rk_one H')
  · have e := rk_kf1 hk
    rw [e] at H
    have h11 := (h kk hk).2.2.2.2.2.2.1
    refine rk_bk0 hk (br_t rfl (br_c (fun a => ?_) (fun a => ?_)))
    · subst a
      have ev : rk_eput (-1000000001) 1 (-1) = nI 1 := by decide
      have em : rk_mf 1 (-1) = nI 1 := by decide
      rw [ev, em] at H
      refine br_t rfl (rk_put41 (h kk hk) hk (by omega) (fun u' h' => H u' ⟨kk, 1, _, _, hk, h', by omega, rfl, Or.inr ⟨e, rfl⟩, fun i hi => ?_⟩))
      obtain rfl : i = 0 := by omega
      exact ⟨pk_us, pk_us⟩
    · have em : rk_mf 1 l = nI 0 := by
        unfold rk_mf
        rw [if_neg rk_one, if_neg a]
        rfl
      rw [em] at H
      have H' := H (c, o, p, f, t, a1, a2, a3, a4, a5, a6, a7, a8, a9, a10, a11, a12, a13, a14, a15, a16, a17, a18, a19, a20, a21, a22, a23) ⟨kk, 0, _, _, hk, h kk hk, by omega, rfl, Or.inr ⟨e, rfl⟩, fun i hi => absurd hi (by omega)⟩
      unfold rk_eput at H'
      rw [if_neg rk_one] at H'
      refine rk_bl (fun b => br_f rk_one ?_) (fun b d => br_t rfl (br_f a ?_)) (fun b => br_f rk_one ?_)
      · rw [if_pos (rk_c1 a b)] at H'
        exact H'
      · rw [if_neg (rk_c4 b), if_pos (rk_c2 d), if_neg b] at H'
        have b' : ¬ l < 0 := b
        obtain ⟨j, hj, rfl⟩ : ∃ j : Nat, j < 6 ∧ l = nI j := by
          rcases pk_ix l (n := 6) (by decide) with z | z | z
          · exact absurd z b
          · exact absurd d (Int32.not_lt.mpr z)
          · exact z
        refine ⟨pk_in j 6 hj, br_t ?_ H'⟩
        rw [nI_clamp (by omega)]
        exact h11 j hj
      · rw [if_neg (rk_c3 b).2, if_neg (rk_c3 b).1] at H'
        exact H'
theorem rk_sw80 {post : Int32 → St2 → Prop} {c o p f t : Int32} {a1 a2 a3 a4 a5 a6 a7 a8 a9 a10 a11 a12 a13 a14 a15 a16 a17 a18 a19 a20 a21 a22 a23 : Nat → Int32} {k n : Nat} {pu va : Nat → Int32} {x l : Int32} (h : rk_P k n n pu va (c, o, p, f, t, a1, a2, a3, a4, a5, a6, a7, a8, a9, a10, a11, a12, a13, a14, a15, a16, a17, a18, a19, a20, a21, a22, a23)) (hk : k < 16) (hn : n ≤ 90) (H : ∀ u', rk_P k (n + 1) (n + 1) (upd pu n 1) (upd va n x) u' → post (nI (n + 1)) u') : wX_swap_80 post l x (nI k) c o p f t a1 a2 a3 a4 a5 a6 a7 a8 a9 a10 a11 a12 a13 a14 a15 a16 a17 a18 a19 a20 a21 a22 a23 := by
  unfold wX_swap_80
  refine rk_putNow h hk (by omega) ?_
  rintro ⟨c', o', p', f', t', a1', a2', a3', a4', a5', a6', a7', a8', a9', a10', a11', a12', a13', a14', a15', a16', a17', a18', a19', a20', a21', a22', a23'⟩ h'
  exact H _ h'
theorem rk_swap {post : Int32 → St2 → Prop} {u : St2} {k n : Nat} {pu va : Nat → Int32} {r x : Int32} (h : rk_P k n n pu va u) (hk : k < 16) (hn : n ≤ 90) (hl : 0 < n → rk_live n pu) (H1 : r = nI n → ∀ u', rk_P k (n + 1) (n + 1) (upd pu n 1) (upd va n x) u' → post (nI (n + 1)) u') (H0 : ¬ r = nI n → post (-1000000003) u) : wpX_swap post u (nI k) r x := by
  obtain ⟨c, o, p, f, t, a1, a2, a3, a4, a5, a6, a7, a8, a9, a10, a11, a12, a13, a14, a15, a16, a17, a18, a19, a20, a21, a22, a23⟩ := u
  have h' := h
  obtain ⟨h1, h2, h3, h4, h5, h6, h7, h8⟩ := h'
  have hr : c - o < 100 := by
    rw [h1, h2, Int32.sub_zero]
    exact nI_lt (b := 100) (by omega) (by omega)
  have k34 : wX_swap_34 post (nI k) r x (nI n) c o p f t a1 a2 a3 a4 a5 a6 a7 a8 a9 a10 a11 a12 a13 a14 a15 a16 a17 a18 a19 a20 a21 a22 a23 := by
    unfold wX_swap_34
    refine br_c (fun z => ?_) (fun z => H0 (fun y => z y.symm))
    refine br_t (c := c - o < 100) hr (rk_exists h (by omega) hk (fun _ _ => br_f rk_one ⟨pk_in k 16 hk, rk_sw80 h hk hn (H1 z.symm)⟩) (fun _ => br_t rfl (rk_sw80 h hk hn (H1 z.symm))))
  unfold wpX_swap
  dsimp only
  refine rk_bk0 hk (br_t rfl (rk_exists h (by omega) hk (fun _ hv => br_f rk_one ?_) (fun hv => br_t rfl ?_)))
  · obtain ⟨m, hm, _⟩ := hv
    subst hm
    have e8 : a8 (nI k).toNatClampNeg = nI m := by
      rw [nI_clamp (show k < 2 ^ 31 by omega)]
      exact (h6 k hk).trans (if_pos rfl)
    have e1 : a1 m = nI (m + 1) := (h5 m (by omega)).1
    rw [e8, nI_clamp (show m < 2 ^ 31 by omega), e1]
    exact ⟨pk_in k 16 hk, pk_in m 140 (by omega), k34⟩
  · have h0 : n = 0 := by
      rcases Nat.eq_zero_or_pos n with z | z
      · exact z
      · exact absurd ⟨rfl, hl z⟩ hv
    subst h0
    exact k34
theorem rk_af1 {n : Nat} {r : Int32} (hn : n ≤ 1) : rk_af 1 (nI n) r = if r = nI n then 1 else 0 := by
  unfold rk_af
  rw [if_neg rk_one]
  rcases (show n = 0 ∨ n = 1 by omega) with z | z
  · subst z
    rw [if_pos (show nI 0 = 0 from rfl)]
    rfl
  · subst z
    rw [if_neg (show ¬ nI 1 = 0 by decide)]
    rfl
theorem rk_swap_s {post : Int32 → St2 → Prop} {u : St2} {k x mf r : Int32} (h : rk_H1 k x mf u) (H : ∀ u', rk_H2 k x mf (rk_af (rk_kf k) mf r) u' → post (rk_esw (-1000000001) (rk_kf k) (rk_af (rk_kf k) mf r) (rk_bit mf + rk_bit (rk_af (rk_kf k) mf r))) u') : wpX_swap post u k r 5 := by
  obtain ⟨kk, n, pu, va, hkk, hP, hn, hmf, hkey, hv⟩ := h
  subst hmf
  rcases hkey with ⟨e, hb, h0⟩ | ⟨e, rfl⟩
  · subst h0
    have ea : rk_af 0 (nI 0) r = 0 := if_pos rfl
    have e0 : rk_esw (-1000000001) 0 0 (rk_bit (nI 0) + rk_bit 0) = -1000000001 := if_pos rfl
    rw [e, ea, e0] at H
    have H' := H u ⟨kk, 0, pu, va, hkk, hP, by omega, by decide, Or.inl ⟨e, hb, rfl⟩, fun i hi => absurd hi (by omega), fun i hi => absurd hi (by omega), by decide⟩
    obtain ⟨c, o, p, f, t, a1, a2, a3, a4, a5, a6, a7, a8, a9, a10, a11, a12, a13, a14, a15, a16, a17, a18, a19, a20, a21, a22, a23⟩ := u
    unfold wpX_swap
    dsimp only
    exact rk_bk1 hb (br_f rk_one H')
  · rw [e] at H
    have hn01 : n = 0 ∨ n = 1 := by omega
    refine rk_swap hP hkk (by omega) (fun z => ⟨n - 1, by omega, by rw [(hv (n - 1) (by omega)).1]; exact rk_one⟩) (fun z u' h' => ?_) (fun z => ?_)
    · have ea : rk_af 1 (nI n) r = 1 := by rw [rk_af1 hn, if_pos z]
      rw [ea] at H
      have ev : rk_esw (-1000000001) 1 1 (rk_bit (nI n) + rk_bit 1) = nI (n + 1) := by
        rcases hn01 with z | z <;> subst z <;> decide
      have en : rk_bit (nI n) + rk_bit 1 = nI (n + 1) := by
        rcases hn01 with z | z <;> subst z <;> decide
      rw [ev] at H
      refine H u' ⟨kk, n + 1, _, _, hkk, h', by omega, en, Or.inr ⟨e, rfl⟩, fun i hi => ?_, fun m hm => ?_, ?_⟩
      · by_cases ei : i = n
        · subst ei
          rw [pk_us]
          exact rk_one
        · rw [pk_un ei, (hv i (by omega)).1]
          exact rk_one
      · rcases hn01 with z | z
        · subst z
          obtain rfl : m = 0 := by omega
          rw [pk_us]
          rfl
        · subst z
          rcases (show m = 0 ∨ m = 1 by omega) with y | y
          · subst y
            rw [pk_un (by decide), (hv 0 (by omega)).2]
            rfl
          · subst y
            rw [pk_us]
            rfl
      · rcases hn01 with z | z <;> subst z <;> decide
    · have ea : rk_af 1 (nI n) r = 0 := by rw [rk_af1 hn, if_neg z]
      have ev : rk_esw (-1000000001) 1 0 (rk_bit (nI n) + rk_bit 0) = -1000000003 := by
        unfold rk_esw
        rw [if_neg rk_one, if_pos rfl]
        decide
      rw [ea, ev] at H
      refine H u ⟨kk, n, pu, va, hkk, hP, by omega, ?_, Or.inr ⟨e, rfl⟩, fun i hi => by rw [(hv i hi).1]; exact rk_one, fun m hm => ?_, ?_⟩
      · rcases hn01 with z | z <;> subst z <;> decide
      · obtain rfl : n = 1 := by omega
        obtain rfl : m = 0 := by omega
        rw [(hv 0 (by omega)).2]
        rfl
      · rcases hn01 with z | z <;> subst z <;> decide
end
section
theorem rk_changeAt {post : Int32 → Prop} {u : St2} {k n e q : Nat} {pu va : Nat → Int32} (h : rk_P k n e pu va u) (hk : k < 16) (hn : n ≤ 100) (hq : q ≤ n) (H : post (rk_b q)) : wpX_changeAt post u (nI k) (nI q) := by
  obtain ⟨c, o, p, f, t, a1, a2, a3, a4, a5, a6, a7, a8, a9, a10, a11, a12, a13, a14, a15, a16, a17, a18, a19, a20, a21, a22, a23⟩ := u
  obtain ⟨h1, h2, h3, h4, h5, h6, h7, h8⟩ := h
  refine ⟨pk_in k 16 hk, nm_r (e' := rk_b n) (by rw [nI_clamp (show k < 2 ^ 31 by omega), h6 k hk]; exact if_pos rfl) ?_⟩
  refine Exists.elim (pk_loop (σ := Unit) (fun m i _ => wX_changeAt_10 post (nI q) c o p f t a1 a2 a3 a4 a5 a6 a7 a8 a9 a10 a11 a12 a13 a14 a15 a16 a17 a18 a19 a20 a21 a22 a23 m (rk_b (n - i)) (nI i)) (fun _ _ => True) (n - q) 0 () (by omega) trivial ?_ ?_) (fun m hm => ⟨m, hm⟩)
  · intro m _ _
    show wX_changeAt_10 post (nI q) c o p f t a1 a2 a3 a4 a5 a6 a7 a8 a9 a10 a11 a12 a13 a14 a15 a16 a17 a18 a19 a20 a21 a22 a23 (m + 1) (rk_b (n - (n - q))) (nI (n - q))
    rw [show n - (n - q) = q by omega]
    refine pk_le 140 (n - q) (fun z => absurd z (by omega)) (fun _ => ?_)
    cases q with
    | zero => exact br_t rfl H
    | succ q =>
      have cl : (rk_b (q + 1)).toNatClampNeg = q := nI_clamp (show q < 2 ^ 31 by omega)
      refine br_f (rk_ne (m := q) (by omega)) ⟨pk_in q 140 (by omega), br_t ?_ H⟩
      rw [cl, (h5 q (by omega)).1]
      exact nI_le (Nat.le_refl _) (by omega)
  · intro m i _ hi _ hw
    have hw' := hw () trivial
    obtain ⟨d, hd⟩ : ∃ d, n - i = d + 1 := ⟨n - i - 1, by omega⟩
    show wX_changeAt_10 post (nI q) c o p f t a1 a2 a3 a4 a5 a6 a7 a8 a9 a10 a11 a12 a13 a14 a15 a16 a17 a18 a19 a20 a21 a22 a23 (m + 1) (rk_b (n - i)) (nI i)
    rw [hd]
    have hw2 : wX_changeAt_10 post (nI q) c o p f t a1 a2 a3 a4 a5 a6 a7 a8 a9 a10 a11 a12 a13 a14 a15 a16 a17 a18 a19 a20 a21 a22 a23 m (rk_b d) (nI (i + 1)) := by
      have hd2 : n - (i + 1) = d := by omega
      rw [← hd2]
      exact hw'
    have cl : (rk_b (d + 1)).toNatClampNeg = d := nI_clamp (show d < 2 ^ 31 by omega)
    refine pk_le 140 i (fun z => absurd z (by omega)) (fun _ => br_f (rk_ne (m := d) (by omega)) ⟨pk_in d 140 (by omega), br_f ?_ ⟨pk_in d 140 (by omega), nm_r (e' := rk_b d) ?_ (nm_r (nI_1 i) hw2)⟩⟩)
    · rw [cl, (h5 d (by omega)).1]
      exact nI_ge (by omega) (by omega)
    · rw [cl, (h5 d (by omega)).2.2.2.2]
theorem rk_value {post : Int32 → Prop} {u : St2} {k n : Nat} {pu va : Nat → Int32} {r : Int32} (h : rk_P k n n pu va u) (hk : k < 16) (hn : n ≤ 90) (hpu : ∀ i, i < n → ¬ pu i = 0)
    (HF : ¬ r = -1 → ¬ 0 ≤ r → post (-1000000004)) (HL : ¬ r ≤ nI n → post (-1000000005))
    (H0 : ∀ q, q ≤ n → (r = -1 ∧ q = n ∨ r = nI q) → q = 0 → post (-1000000003)) (HV : ∀ q, q ≤ n → (r = -1 ∧ q = n ∨ r = nI q) → ∀ m, q = m + 1 → post (va m)) : wpX_value post u (nI k) r := by
  obtain ⟨c, o, p, f, t, a1, a2, a3, a4, a5, a6, a7, a8, a9, a10, a11, a12, a13, a14, a15, a16, a17, a18, a19, a20, a21, a22, a23⟩ := u
  have h' := h
  obtain ⟨h1, h2, h3, h4, h5, h6, h7, h8⟩ := h'
  have fin : ∀ q, q ≤ n → (r = -1 ∧ q = n ∨ r = nI q) → wpX_changeAt (fun r_6 => (((r_6 = (-1) → (post (-1000000003))) ∧ (¬ r_6 = (-1) → (vp_in r_6 140 ∧ ((((a4 r_6.toNatClampNeg) = 0 → (post (-1000000003))) ∧ (¬ (a4 r_6.toNatClampNeg) = 0 → (vp_in r_6 140 ∧ (post (a3 r_6.toNatClampNeg))))))))))) (c, o, p, f, t, a1, a2, a3, a4, a5, a6, a7, a8, a9, a10, a11, a12, a13, a14, a15, a16, a17, a18, a19, a20, a21, a22, a23) (nI k) (nI q) := by
    intro q hq hr
    refine rk_changeAt h hk (by omega) hq ?_
    cases q with
    | zero => exact br_t rfl (H0 0 hq hr rfl)
    | succ m =>
      have cl : (rk_b (m + 1)).toNatClampNeg = m := nI_clamp (show m < 2 ^ 31 by omega)
      have c5 := h5 m (by omega)
      rw [cl, c5.2.2.1, c5.2.2.2.1]
      exact br_f (rk_ne (m := m) (by omega)) ⟨pk_in m 140 (by omega), br_f (hpu m (by omega)) ⟨pk_in m 140 (by omega), HV (m + 1) hq hr m rfl⟩⟩
  unfold wpX_value
  dsimp only
  refine rk_bk0 hk (br_t rfl ?_)
  unfold wpX_refused
  dsimp only
  refine br_c (fun a => ?_) (fun a => br_c (fun b => ?_) (fun b => ?_))
  · refine br_t ?_ (br_t (by decide) (br_t a ?_))
    · rw [a, h3]
      exact rk_c9 (by omega)
    · have g := fin n (Nat.le_refl n) (Or.inl ⟨a, rfl⟩)
      rw [← h3] at g
      exact g
  · rw [h4] at b
    refine br_c (fun d => br_t (by decide) (br_f a ?_)) (fun d => br_f (by decide) (HL (by rw [h3] at d; exact d)))
    rw [h3] at d
    obtain ⟨q, hq, hrq⟩ := nI_of (rk_c8 b)
    rw [hrq] at d
    have hqn := (nI_leI hq (by omega)).mp d
    have := fin q hqn (Or.inr hrq)
    rw [← hrq] at this
    exact this
  · rw [h4] at b
    exact br_f (by decide) (HF a b)
theorem rk_value_s {post : Int32 → Prop} {u : St2} {k x mf af r : Int32} (h : rk_H2 k x mf af u) (H : post (rk_eva (-1000000001) (rk_kf k) r (rk_at r (rk_bit mf + rk_bit af)) (rk_bit mf + rk_bit af) (rk_own (-1000000001) x mf af (rk_at r (rk_bit mf + rk_bit af))))) : wpX_value post u k r := by
  obtain ⟨kk, n, pu, va, hkk, hP, hn, hnow, hkey, hpu, hown, hth⟩ := h
  rw [hnow] at H
  rcases hkey with ⟨e, hb, h0⟩ | ⟨e, rfl⟩
  · unfold rk_eva at H
    rw [if_pos e] at H
    obtain ⟨c, o, p, f, t, a1, a2, a3, a4, a5, a6, a7, a8, a9, a10, a11, a12, a13, a14, a15, a16, a17, a18, a19, a20, a21, a22, a23⟩ := u
    unfold wpX_value
    dsimp only
    exact rk_bk1 hb (br_f rk_one H)
  · unfold rk_eva at H
    rw [e, if_neg rk_one] at H
    have own0 : rk_own (-1000000001) x mf af 0 = -1000000003 := by
      unfold rk_own
      rw [if_pos rfl]
      decide
    have hat : ∀ q, q ≤ n → (r = -1 ∧ q = n ∨ r = nI q) → -1 ≤ r ∧ rk_at r (nI n) = nI q := by
      intro q hq hr
      unfold rk_at
      rcases hr with ⟨a, b⟩ | a
      · rw [if_pos a, a, b]
        exact ⟨by decide, rfl⟩
      · rw [a, if_neg (rk_ne (by omega))]
        exact ⟨rk_c9 (by omega), rfl⟩
    refine rk_value hP hkk (by omega) hpu (fun a b => ?_) (fun a => ?_) (fun q hq hr h0 => ?_) (fun q hq hr m hm => ?_)
    · rw [if_neg (rk_c6 b a)] at H
      exact H
    · have a1 : ¬ r < 0 := by
        intro z
        have e := rk_lits
        rw [(rk_t _ _).1] at z
        have a' := a
        rw [(rk_t _ _).2.1, nI_toInt (by omega)] at a'
        omega
      have a2 := rk_c7 (Int32.not_lt.mp a1)
      rw [if_pos a2.1] at H
      unfold rk_at at H
      rw [if_neg a2.2, if_neg a] at H
      exact H
    · obtain ⟨g1, g2⟩ := hat q hq hr
      subst h0
      rw [if_pos g1, g2, if_pos (nI_le (by omega) (by omega)), nI_0, own0] at H
      exact H
    · obtain ⟨g1, g2⟩ := hat q hq hr
      subst hm
      rw [if_pos g1, g2, if_pos (nI_le (by omega) (by omega)), hown m (by omega)] at H
      exact H
theorem rk_er87 {post : Int32 → St2 → Prop} {c o p f t : Int32} {a1 a2 a3 a4 a5 a6 a7 a8 a9 a10 a11 a12 a13 a14 a15 a16 a17 a18 a19 a20 a21 a22 a23 : Nat → Int32} {k n w : Nat} {pu va : Nat → Int32} (h : rk_P k n (n + 1) pu va (c, o, p, f, t, a1, a2, a3, a4, a5, a6, a7, a8, a9, a10, a11, a12, a13, a14, a15, a16, a17, a18, a19, a20, a21, a22, a23)) (hk : k < 16) (hn : n ≤ 90) (hw : w < 16) (hkw : k ≤ w) (hl : rk_live n pu) (H1 : ∀ u', rk_P k (n + 1) (n + 1) (upd pu n 0) (upd va n 0) u' → post 1 u') : ∃ fu, wX_erase_87 post (nI w) 1 fu 0 c o p f t a1 a2 a3 a4 a5 a6 a7 a8 a9 a10 a11 a12 a13 a14 a15 a16 a17 a18 a19 a20 a21 a22 a23 := by
  refine Exists.elim (pk_loop (σ := St2) (fun m i s => wX_erase_87 post (nI w) 1 m (nI i) s.1 s.2.1 s.2.2.1 s.2.2.2.1 s.2.2.2.2.1 s.2.2.2.2.2.1 s.2.2.2.2.2.2.1 s.2.2.2.2.2.2.2.1 s.2.2.2.2.2.2.2.2.1 s.2.2.2.2.2.2.2.2.2.1 s.2.2.2.2.2.2.2.2.2.2.1 s.2.2.2.2.2.2.2.2.2.2.2.1 s.2.2.2.2.2.2.2.2.2.2.2.2.1 s.2.2.2.2.2.2.2.2.2.2.2.2.2.1 s.2.2.2.2.2.2.2.2.2.2.2.2.2.2.1 s.2.2.2.2.2.2.2.2.2.2.2.2.2.2.2.1 s.2.2.2.2.2.2.2.2.2.2.2.2.2.2.2.2.1 s.2.2.2.2.2.2.2.2.2.2.2.2.2.2.2.2.2.1 s.2.2.2.2.2.2.2.2.2.2.2.2.2.2.2.2.2.2.1 s.2.2.2.2.2.2.2.2.2.2.2.2.2.2.2.2.2.2.2.1 s.2.2.2.2.2.2.2.2.2.2.2.2.2.2.2.2.2.2.2.2.1 s.2.2.2.2.2.2.2.2.2.2.2.2.2.2.2.2.2.2.2.2.2.1 s.2.2.2.2.2.2.2.2.2.2.2.2.2.2.2.2.2.2.2.2.2.2.1 s.2.2.2.2.2.2.2.2.2.2.2.2.2.2.2.2.2.2.2.2.2.2.2.1 s.2.2.2.2.2.2.2.2.2.2.2.2.2.2.2.2.2.2.2.2.2.2.2.2.1 s.2.2.2.2.2.2.2.2.2.2.2.2.2.2.2.2.2.2.2.2.2.2.2.2.2.1 s.2.2.2.2.2.2.2.2.2.2.2.2.2.2.2.2.2.2.2.2.2.2.2.2.2.2.1 s.2.2.2.2.2.2.2.2.2.2.2.2.2.2.2.2.2.2.2.2.2.2.2.2.2.2.2) (fun i s => (i ≤ k → rk_P k n (n + 1) pu va s) ∧ (k < i → rk_P k (n + 1) (n + 1) (upd pu n 0) (upd va n 0) s)) (w + 1) 0 (c, o, p, f, t, a1, a2, a3, a4, a5, a6, a7, a8, a9, a10, a11, a12, a13, a14, a15, a16, a17, a18, a19, a20, a21, a22, a23) (by omega) ⟨fun _ => h, fun z => absurd z (by omega)⟩ ?_ ?_) (fun m hm => ⟨m, hm⟩)
  · rintro m ⟨c', o', p', f', t', a1', a2', a3', a4', a5', a6', a7', a8', a9', a10', a11', a12', a13', a14', a15', a16', a17', a18', a19', a20', a21', a22', a23'⟩ hI
    exact pk_lt w (w + 1) (fun _ => H1 _ (hI.2 (by omega))) (fun z => absurd z (by omega))
  · rintro m i ⟨c', o', p', f', t', a1', a2', a3', a4', a5', a6', a7', a8', a9', a10', a11', a12', a13', a14', a15', a16', a17', a18', a19', a20', a21', a22', a23'⟩ hi hI hw'
    show wX_erase_87 post (nI w) 1 (m + 1) (nI i) c' o' p' f' t' a1' a2' a3' a4' a5' a6' a7' a8' a9' a10' a11' a12' a13' a14' a15' a16' a17' a18' a19' a20' a21' a22' a23'
    refine pk_lt w i (fun z => absurd z (by omega)) (fun _ => ?_)
    by_cases ik : i ≤ k
    · have hP := hI.1 ik
      refine rk_exists hP (by omega) (by omega) (fun ej _ => br_f rk_one ?_) (fun hnl => br_t rfl (nm_r (nI_1 i) (hw' (c', o', p', f', t', a1', a2', a3', a4', a5', a6', a7', a8', a9', a10', a11', a12', a13', a14', a15', a16', a17', a18', a19', a20', a21', a22', a23') ⟨fun _ => hP, fun z => ?_⟩)))
      · subst ej
        refine rk_eraseNow hP (by omega) (by omega) ?_
        rintro ⟨c, o, p, f, t, a1, a2, a3, a4, a5, a6, a7, a8, a9, a10, a11, a12, a13, a14, a15, a16, a17, a18, a19, a20, a21, a22, a23⟩ h'
        exact nm_r (nI_1 i) (hw' (c, o, p, f, t, a1, a2, a3, a4, a5, a6, a7, a8, a9, a10, a11, a12, a13, a14, a15, a16, a17, a18, a19, a20, a21, a22, a23) ⟨fun z => absurd z (by omega), fun _ => h'⟩)
      · exact absurd ⟨by omega, hl⟩ hnl
    · have hP := hI.2 (by omega)
      refine rk_exists hP (by omega) (by omega) (fun _ hv => ?_) (fun _ => br_t rfl (nm_r (nI_1 i) (hw' (c', o', p', f', t', a1', a2', a3', a4', a5', a6', a7', a8', a9', a10', a11', a12', a13', a14', a15', a16', a17', a18', a19', a20', a21', a22', a23') ⟨fun z => absurd z (by omega), fun _ => hP⟩)))
      obtain ⟨m', hm', hv⟩ := hv
      obtain rfl : n = m' := by omega
      rw [pk_us] at hv
      exact absurd rfl hv
theorem rk_erase {post : Int32 → St2 → Prop} {u : St2} {k n w : Nat} {pu va : Nat → Int32} (h : rk_P k n n pu va u) (hk : k < 16) (hn : n ≤ 90) (hw : w < 16) (H1 : k ≤ w → rk_live n pu → ∀ u', rk_P k (n + 1) (n + 1) (upd pu n 0) (upd va n 0) u' → post 1 u') (H0 : ¬ (k ≤ w ∧ rk_live n pu) → post (-1000000003) u) : wpX_erase post u 0 (nI w) := by
  obtain ⟨c, o, p, f, t, a1, a2, a3, a4, a5, a6, a7, a8, a9, a10, a11, a12, a13, a14, a15, a16, a17, a18, a19, a20, a21, a22, a23⟩ := u
  unfold wpX_erase
  dsimp only
  refine rk_bk0 (k := 0) (by omega) (br_t rfl (rk_bk0 hw (br_t rfl ?_)))
  refine Exists.elim (pk_loop (σ := Int32) (fun m i s => wX_erase_24 post 0 (nI w) c o p f t a1 a2 a3 a4 a5 a6 a7 a8 a9 a10 a11 a12 a13 a14 a15 a16 a17 a18 a19 a20 a21 a22 a23 m s (nI i)) (fun i s => (k < i ∧ rk_live n pu → s = 1) ∧ (¬ (k < i ∧ rk_live n pu) → s = 0)) (w + 1) 0 0 (by omega) ⟨fun z => absurd z.1 (by omega), fun _ => rfl⟩ ?_ ?_) (fun m hm => ⟨m, hm⟩)
  · intro m s hI
    refine pk_lt w (w + 1) (fun _ => ?_) (fun z => absurd z (by omega))
    refine br_c (fun z => H0 (fun y => ?_)) (fun z => ?_)
    · rw [hI.1 ⟨by omega, y.2⟩] at z
      exact rk_one z
    · have y : k < w + 1 ∧ rk_live n pu := Classical.byContradiction (fun g => z (hI.2 g))
      obtain rfl := hI.1 y
      obtain ⟨h1, h2, h3, h4, h5, h6, h7, h8⟩ := h
      have hr : c - o + 1 ≤ 100 := by
        rw [show (1 : Int32) = nI 1 from rfl, rk_rem h1 h2]
        exact nI_le (b := 100) (by omega) (by omega)
      refine br_t (c := c - o + 1 ≤ 100) hr (nm_r (e' := nI (n + 1)) (by rw [h3, nI_1]) ?_)
      exact rk_er87 (n := n) (pu := pu) (va := va) ⟨h1, h2, rfl, h4, h5, h6, h7, h8⟩ hk hn hw (by omega) y.2 (H1 (by omega) y.2)
  · intro m i s hi hI hw'
    refine pk_lt w i (fun z => absurd z (by omega)) (fun _ => ?_)
    refine rk_exists h (by omega) (by omega) (fun ej hl => br_f rk_one (nm_e (nm_r (nI_1 i) (hw' _ ?_)))) (fun hnl => br_t rfl (nm_r (nI_1 i) (hw' s ?_)))
    · have s0 : s = 0 := hI.2 (fun z => absurd z.1 (by omega))
      rw [s0]
      exact ⟨fun _ => rfl, fun z => absurd ⟨by omega, hl⟩ z⟩
    · refine ⟨fun z => hI.1 ⟨?_, z.2⟩, fun z => hI.2 (fun y => z ⟨by omega, y.2⟩)⟩
      have : ¬ i = k := fun g => hnl ⟨g, z.2⟩
      omega
theorem rk_erase_s {post : Int32 → St2 → Prop} {u : St2} {k x mf af w : Int32} (h : rk_H2 k x mf af u) (H : ∀ u', rk_H3 (rk_la (rk_gn (rk_kf w) (rk_th mf af) w k) (rk_bit mf + rk_bit af)) u' → post (rk_eer (-1000000001) (rk_kf w) (rk_gn (rk_kf w) (rk_th mf af) w k)) u') : wpX_erase post u 0 w := by
  obtain ⟨kk, n, pu, va, hkk, hP, hn, hnow, hkey, hpu, hown, hth⟩ := h
  rw [hnow] at H
  rcases rk_key w with hw | ⟨ww, hw, rfl⟩
  · have e := rk_kf0 hw
    have eg : rk_gn 0 (rk_th mf af) w k = 0 := if_pos rfl
    have el : rk_la 0 (nI n) = nI n := if_pos rfl
    have ev : rk_eer (-1000000001) 0 0 = -1000000001 := if_pos rfl
    rw [e, eg, el, ev] at H
    have H' := H u ⟨kk, n, pu, va, hkk, hP, by omega, rfl⟩
    obtain ⟨c, o, p, f, t, a1, a2, a3, a4, a5, a6, a7, a8, a9, a10, a11, a12, a13, a14, a15, a16, a17, a18, a19, a20, a21, a22, a23⟩ := u
    unfold wpX_erase
    dsimp only
    exact rk_bk0 (k := 0) (by omega) (br_t rfl (rk_bk1 hw (br_f rk_one H')))
  · rw [rk_kf1 hw] at H
    have lv : rk_live n pu ↔ 0 < n := ⟨fun g => by obtain ⟨m, hm, _⟩ := g; omega, fun g => ⟨n - 1, by omega, hpu (n - 1) (by omega)⟩⟩
    have eg : ∀ hd : 0 < n ∧ kk ≤ ww, rk_gn 1 (rk_th mf af) (nI ww) k = 1 := by
      intro hd
      rcases hkey with ⟨_, _, z⟩ | ⟨_, z⟩
      · omega
      · unfold rk_gn
        rw [if_neg rk_one, hth, if_neg (show ¬ n = 0 by omega), if_neg rk_one, z, if_neg (nI_nlt hd.2 (by omega))]
    have eg0 : ∀ hd : ¬ (0 < n ∧ kk ≤ ww), rk_gn 1 (rk_th mf af) (nI ww) k = 0 := by
      intro hd
      unfold rk_gn
      rw [if_neg rk_one, hth]
      by_cases hz : n = 0
      · rw [if_pos hz, if_pos rfl]
      · rcases hkey with ⟨_, _, z⟩ | ⟨_, z⟩
        · exact absurd z hz
        · rw [if_neg hz, if_neg rk_one, z, if_pos (nI_lt (by omega) (by omega))]
    refine rk_erase hP hkk (by omega) hw (fun hkw hl u' h' => ?_) (fun hno => ?_)
    · have el : rk_la 1 (nI n) = nI (n + 1) := by
        unfold rk_la
        rw [if_neg rk_one, nI_1]
      have ev : rk_eer (-1000000001) 1 1 = 1 := by decide
      rw [eg ⟨lv.mp hl, hkw⟩, el, ev] at H
      exact H u' ⟨kk, n + 1, _, _, hkk, h', by omega, rfl⟩
    · have el : rk_la 0 (nI n) = nI n := if_pos rfl
      have ev : rk_eer (-1000000001) 1 0 = -1000000003 := by decide
      rw [eg0 (fun g => hno ⟨g.2, lv.mpr g.1⟩), el, ev] at H
      exact H u ⟨kk, n, pu, va, hkk, hP, by omega, rfl⟩
theorem rk_bw {post : Int32 → Prop} {u : St2} {w : Int32} (H1 : w < 0 → post 1) (H2 : ¬ w < 0 → w < 4 → post 0) (H3 : ¬ w < 4 → post 1) : wpX_badWatch post u w := by
  obtain ⟨c, o, p, f, t, a1, a2, a3, a4, a5, a6, a7, a8, a9, a10, a11, a12, a13, a14, a15, a16, a17, a18, a19, a20, a21, a22, a23⟩ := u
  exact br_c H1 (fun z => br_c (H2 z) H3)
theorem rk_w107 {post : Int32 → St2 → Prop} {c o p f t : Int32} {a1 a2 a3 a4 a5 a6 a7 a8 a9 a10 a11 a12 a13 a14 a15 a16 a17 a18 a19 a20 a21 a22 a23 : Nat → Int32} {j : Nat} {z0 : Int32} (hj : j < 4) (H : ∀ a18' a20', post 0 (c, o, p, f, t, a1, a2, a3, a4, a5, a6, a7, a8, a9, a10, a11, a12, a13, a14, a15, a16, a17, a18', upd a19 j o, a20', a21, a22, a23)) : wX_watch_107 post (nI j) z0 (nI j) c o p f t a1 a2 a3 a4 a5 a6 a7 a8 a9 a10 a11 a12 a13 a14 a15 a16 a17 a18 a19 a20 a21 a22 a23 := by
  unfold wX_watch_107
  rw [nI_clamp (show j < 2 ^ 31 by omega)]
  exact ⟨pk_in j 4 hj, nm_e ⟨pk_in j 4 hj, nm_e ⟨pk_in j 4 hj, nm_e (H _ _)⟩⟩⟩
theorem rk_w57 {post : Int32 → St2 → Prop} {c o p f t : Int32} {a1 a2 a3 a4 a5 a6 a7 a8 a9 a10 a11 a12 a13 a14 a15 a16 a17 a18 a19 a20 a21 a22 a23 : Nat → Int32} {k n j : Nat} {pu va : Nat → Int32} {x2 x3 x4 : Int32} (h : rk_P k n n pu va (c, o, p, f, t, a1, a2, a3, a4, a5, a6, a7, a8, a9, a10, a11, a12, a13, a14, a15, a16, a17, a18, a19, a20, a21, a22, a23)) (hj : j < 4) (H : ∀ u', rk_Q k n u' → post 0 u') : wX_watch_57 post (nI j) x2 x3 x4 c o p f t a1 a2 a3 a4 a5 a6 a7 a8 a9 a10 a11 a12 a13 a14 a15 a16 a17 a18 a19 a20 a21 a22 a23 := by
  obtain ⟨h1, h2, h3, h4, h5, h6, h7, h8⟩ := h
  have q : ∀ j', j' < 4 → ¬ upd a14 j 1 j' = 0 → upd a19 j o j' = 0 := by
    intro j' hj' z
    by_cases e : j' = j
    · subst e
      rw [pk_us]
      exact h2
    · rw [pk_un e] at z
      exact absurd (h8 j' hj') z
  have fin : ∀ a15' a16' a17' a18' a20', post 0 (c, o, p, f, t, a1, a2, a3, a4, a5, a6, a7, a8, a9, a10, a11, a12, a13, upd a14 j 1, a15', a16', a17', a18', upd a19 j o, a20', a21, a22, a23) := fun _ _ _ _ _ => H _ ⟨h1, h3, h4, fun i hi => ⟨(h5 i hi).1, (h5 i hi).2.1, (h5 i hi).2.2.2.2⟩, h6, q⟩
  unfold wX_watch_57
  rw [nI_clamp (show j < 2 ^ 31 by omega)]
  exact ⟨pk_in j 4 hj, nm_e ⟨pk_in j 4 hj, nm_e ⟨pk_in j 4 hj, nm_e ⟨pk_in j 4 hj, nm_e (br_c (fun _ => rk_w107 hj (fun _ _ => fin _ _ _ _ _)) (fun _ => rk_w107 hj (fun _ _ => fin _ _ _ _ _)))⟩⟩⟩⟩
theorem rk_watch_s {post : Int32 → St2 → Prop} {u : St2} {la w r : Int32} (h : rk_H3 la u) (H : ∀ u', rk_H4 la u' → post (rk_ewa (-1000000001) w (rk_fr r la)) u') : wpX_watch post u w 0 15 r := by
  obtain ⟨kk, n, pu, va, hkk, hP, hn, hla⟩ := h
  obtain ⟨c, o, p, f, t, a1, a2, a3, a4, a5, a6, a7, a8, a9, a10, a11, a12, a13, a14, a15, a16, a17, a18, a19, a20, a21, a22, a23⟩ := u
  have hP' := hP
  obtain ⟨h1, h2, h3, h4, h5, h6, h7, h8⟩ := hP'
  have HQ : rk_H4 la (c, o, p, f, t, a1, a2, a3, a4, a5, a6, a7, a8, a9, a10, a11, a12, a13, a14, a15, a16, a17, a18, a19, a20, a21, a22, a23) := ⟨kk, n, hkk, ⟨h1, h3, h4, fun i hi => ⟨(h5 i hi).1, (h5 i hi).2.1, (h5 i hi).2.2.2.2⟩, h6, fun j hj z => absurd (h8 j hj) z⟩, hn, hla⟩
  unfold rk_ewa at H
  unfold wpX_watch
  dsimp only
  refine rk_bw (fun a => br_f rk_one ?_) (fun a b => br_t rfl ?_) (fun a => br_f rk_one ?_)
  · rw [if_pos a] at H
    exact H _ HQ
  · obtain ⟨j, hj, rfl⟩ : ∃ j : Nat, j < 4 ∧ w = nI j := by
      rcases pk_ix w (n := 4) (by decide) with z | z | z
      · exact absurd z a
      · exact absurd b (Int32.not_lt.mpr z)
      · exact z
    have b3 : nI j ≤ 3 := nI_le (b := 3) (by omega) (by omega)
    rw [if_neg a, if_pos b3] at H
    have e14 : a14 (nI j).toNatClampNeg = 0 := by
      rw [nI_clamp (show j < 2 ^ 31 by omega)]
      exact h8 j hj
    refine rk_bk0 (k := 0) (by omega) (br_t rfl (rk_bk0 (k := 15) (by omega) (br_t rfl ⟨pk_in j 4 hj, br_t e14 (br_c (fun d => ?_) (fun d => br_c (fun g => ?_) (fun g => ?_)))⟩)))
    · have hf : ¬ rk_fr r la ≤ 0 := by
        unfold rk_fr
        rw [if_pos d, hla, nI_1]
        exact nI_nle (by omega) (by omega)
      rw [if_neg hf] at H
      exact rk_w57 hP hj (fun u' hq => H u' ⟨kk, n, hkk, hq, hn, hla⟩)
    · rw [h4] at g
      have hf : ¬ rk_fr r la ≤ 0 := by
        unfold rk_fr
        rw [if_neg d]
        exact Int32.not_le.mpr g
      rw [if_neg hf] at H
      exact rk_w57 hP hj (fun u' hq => H u' ⟨kk, n, hkk, hq, hn, hla⟩)
    · rw [h4] at g
      have hf : rk_fr r la ≤ 0 := by
        unfold rk_fr
        rw [if_neg d]
        exact Int32.not_lt.mp g
      rw [if_pos hf] at H
      exact H _ HQ
  · rw [if_neg (rk_c10 a).2, if_neg (rk_c10 a).1] at H
    exact H _ HQ
end
section
/-- how many of the first places hold a number -/
def rk_cnt (a : Nat → Int32) : Nat → Nat
  | 0 => 0
  | i + 1 => if a i = -1 then rk_cnt a i else rk_cnt a i + 1
theorem rk_cnt_le (a : Nat → Int32) (i : Nat) : rk_cnt a i ≤ i := by
  induction i with
  | zero => exact Nat.le_refl 0
  | succ i ih =>
    unfold rk_cnt
    by_cases h : a i = -1
    · rw [if_pos h]
      omega
    · rw [if_neg h]
      omega
theorem rk_cnt_c {a b : Nat → Int32} (i : Nat) (h : ∀ j, j < i → a j = b j) : rk_cnt a i = rk_cnt b i := by
  induction i with
  | zero => rfl
  | succ i ih =>
    unfold rk_cnt
    rw [ih (fun j hj => h j (by omega)), h i (by omega)]
theorem rk_cnt_u {a : Nat → Int32} {i j : Nat} {x : Int32} (h : j ≤ i) : rk_cnt (upd a i x) j = rk_cnt a j := rk_cnt_c j (fun k hk => pk_un (by omega))
theorem rk_cnt_s {a : Nat → Int32} {i : Nat} (h : ¬ a i = -1) : rk_cnt a (i + 1) = rk_cnt a i + 1 := if_neg h
theorem rk_cnt_n {a : Nat → Int32} {i : Nat} (h : a i = -1) : rk_cnt a (i + 1) = rk_cnt a i := if_pos h
/-- the new numbers of the first i changes: each kept one counts those ahead of it; one at or above q is kept -/
def rk_R (q i : Nat) (a : Nat → Int32) : Prop := ∀ j, j < i → a j = nI (rk_cnt a j) ∨ (a j = -1 ∧ j < q)
theorem rk_R_s {q i : Nat} {a : Nat → Int32} {x : Int32} (h : rk_R q i a) (hx : x = nI (rk_cnt a i) ∨ (x = -1 ∧ i < q)) : rk_R q (i + 1) (upd a i x) := by
  intro j hj
  rw [rk_cnt_u (show j ≤ i by omega)]
  by_cases e : j = i
  · subst e
    rw [pk_us]
    exact hx
  · rw [pk_un e]
    exact h j (by omega)
theorem rk_R_q {q n : Nat} {a : Nat → Int32} (h : rk_R q n a) (hn : n ≤ 100) : ∀ d, q + d ≤ n → rk_cnt a (q + d) = rk_cnt a q + d := by
  intro d
  induction d with
  | zero => exact fun _ => rfl
  | succ d ih =>
    intro hd
    have g : a (q + d) = nI (rk_cnt a (q + d)) := by
      rcases h (q + d) (by omega) with z | z
      · exact z
      · omega
    have l := rk_cnt_le a (q + d)
    have e := rk_cnt_s (a := a) (i := q + d) (by rw [g]; exact rk_ne (by omega))
    have e' := ih (by omega)
    rw [show q + (d + 1) = q + d + 1 by omega, e, e']
    omega
theorem rk_b_in {i : Nat} (hi : i ≤ 140) : rk_b i = -1 ∨ ∃ m, m < 140 ∧ rk_b i = nI m := by
  cases i with
  | zero => exact Or.inl rfl
  | succ i => exact Or.inr ⟨i, by omega, rfl⟩
theorem rk_renum {post : Int32 → Prop} {c o p f t : Int32} {a1 a2 a3 a4 a5 a6 a7 a8 a9 a10 a11 a12 a13 a14 a15 a16 a17 a18 a19 a20 a21 a22 a23 : Nat → Int32} {x : Int32} (h : x = -1 ∨ ∃ m, m < 140 ∧ x = nI m) (H : ∀ y, post y) : wpX_renumber post (c, o, p, f, t, a1, a2, a3, a4, a5, a6, a7, a8, a9, a10, a11, a12, a13, a14, a15, a16, a17, a18, a19, a20, a21, a22, a23) x := by
  refine br_c (fun _ => H _) (fun z => ⟨?_, H _⟩)
  rcases h with y | ⟨m, hm, y⟩
  · exact absurd y z
  · exact pk_in m 140 hm y
theorem rk_moveC {post : St2 → Prop} {c o p f t : Int32} {a1 a2 a3 a4 a5 a6 a7 a8 a9 a10 a11 a12 a13 a14 a15 a16 a17 a18 a19 a20 a21 a22 a23 : Nat → Int32} {i t' : Nat} (hi : i < 140) (ht : t' < 140) (H : ∀ a2' a3' a4' a5' a6', post (c, o, p, f, t, upd a1 t' (a1 i), a2', a3', a4', a5', a6', upd a7 t' (a7 i), a8, a9, a10, a11, a12, a13, a14, a15, a16, a17, a18, a19, a20, a21, a22, a23)) : wpX_moveChange post (c, o, p, f, t, a1, a2, a3, a4, a5, a6, a7, a8, a9, a10, a11, a12, a13, a14, a15, a16, a17, a18, a19, a20, a21, a22, a23) (nI i) (nI t') := by
  unfold wpX_moveChange
  dsimp only
  rw [nI_clamp (show i < 2 ^ 31 by omega), nI_clamp (show t' < 2 ^ 31 by omega)]
  have p1 : vp_in (nI i) 140 := pk_in i 140 hi
  have p2 : vp_in (nI t') 140 := pk_in t' 140 ht
  exact ⟨p1, p2, nm_e ⟨p1, p2, nm_e ⟨p1, p2, nm_e ⟨p1, p2, nm_e ⟨p1, p2, nm_e ⟨p1, p2, nm_e ⟨p1, p2, nm_e (H _ _ _ _ _)⟩⟩⟩⟩⟩⟩⟩
theorem rk_isKept {post : Int32 → Prop} {c o p f t : Int32} {a1 a2 a3 a4 a5 a6 a7 a8 a9 a10 a11 a12 a13 a14 a15 a16 a17 a18 a19 a20 a21 a22 a23 : Nat → Int32} {k n q i : Nat} (h1 : ∀ j, j < n → a1 j = nI (j + 1) ∧ a2 j = nI k ∧ a7 j = rk_b j) (h8 : ∀ j, j < 16 → a8 j = rk_l k n j) (hk : k < 16) (hn : n ≤ 100) (hq : q ≤ n) (hi : i < n) (H1 : post 1) (H0 : i < q → post 0) : wpX_isKept post (c, o, p, f, t, a1, a2, a3, a4, a5, a6, a7, a8, a9, a10, a11, a12, a13, a14, a15, a16, a17, a18, a19, a20, a21, a22, a23) (nI i) (nI q) := by
  have ci : (nI i).toNatClampNeg = i := nI_clamp (show i < 2 ^ 31 by omega)
  unfold wpX_isKept
  dsimp only
  rw [ci, (h1 i hi).1, (h1 i hi).2.1]
  refine ⟨pk_in i 140 (by omega), pk_le (i + 1) q (fun z => ?_) (fun _ => H1)⟩
  refine ⟨pk_in i 140 (by omega), nm_e ⟨pk_in k 16 hk, nm_r (e' := rk_b n) (by rw [nI_clamp (show k < 2 ^ 31 by omega), h8 k hk]; exact if_pos rfl) ?_⟩⟩
  have f70 : ∀ x4, wX_isKept_70 post (nI i) x4 c o p f t a1 a2 a3 a4 a5 a6 a7 a8 a9 a10 a11 a12 a13 a14 a15 a16 a17 a18 a19 a20 a21 a22 a23 := fun x4 => br_c (fun _ => ⟨pk_in i 140 (by omega), br_c (fun _ => H0 (by omega)) (fun _ => H1)⟩) (fun _ => H0 (by omega))
  refine Exists.elim (pk_loop (σ := Unit) (fun m j _ => wX_isKept_30 post (nI i) (nI q) c o p f t a1 a2 a3 a4 a5 a6 a7 a8 a9 a10 a11 a12 a13 a14 a15 a16 a17 a18 a19 a20 a21 a22 a23 m (rk_b (n - j)) (nI j)) (fun _ _ => True) (n - q) 0 () (by omega) trivial ?_ ?_) (fun m hm => ⟨m, hm⟩)
  · intro m _ _
    show wX_isKept_30 post (nI i) (nI q) c o p f t a1 a2 a3 a4 a5 a6 a7 a8 a9 a10 a11 a12 a13 a14 a15 a16 a17 a18 a19 a20 a21 a22 a23 (m + 1) (rk_b (n - (n - q))) (nI (n - q))
    rw [show n - (n - q) = q by omega]
    refine pk_le 140 (n - q) (fun z => absurd z (by omega)) (fun _ => ?_)
    cases q with
    | zero => exact absurd z (by omega)
    | succ q =>
      have cl : (rk_b (q + 1)).toNatClampNeg = q := nI_clamp (show q < 2 ^ 31 by omega)
      refine br_f (rk_ne (m := q) (by omega)) ⟨pk_in q 140 (by omega), br_t ?_ (f70 _)⟩
      rw [cl, (h1 q (by omega)).1]
      exact nI_le (Nat.le_refl _) (by omega)
  · intro m j _ hj _ hw
    have hw' := hw () trivial
    obtain ⟨d, hd⟩ : ∃ d, n - j = d + 1 := ⟨n - j - 1, by omega⟩
    show wX_isKept_30 post (nI i) (nI q) c o p f t a1 a2 a3 a4 a5 a6 a7 a8 a9 a10 a11 a12 a13 a14 a15 a16 a17 a18 a19 a20 a21 a22 a23 (m + 1) (rk_b (n - j)) (nI j)
    rw [hd]
    have hw2 : wX_isKept_30 post (nI i) (nI q) c o p f t a1 a2 a3 a4 a5 a6 a7 a8 a9 a10 a11 a12 a13 a14 a15 a16 a17 a18 a19 a20 a21 a22 a23 m (rk_b d) (nI (j + 1)) := by
      have hd2 : n - (j + 1) = d := by omega
      rw [← hd2]
      exact hw'
    have cl : (rk_b (d + 1)).toNatClampNeg = d := nI_clamp (show d < 2 ^ 31 by omega)
    refine pk_le 140 j (fun z => absurd z (by omega)) (fun _ => br_f (rk_ne (m := d) (by omega)) ⟨pk_in d 140 (by omega), br_f ?_ ⟨pk_in d 140 (by omega), nm_r (e' := rk_b d) ?_ (nm_r (nI_1 j) hw2)⟩⟩)
    · rw [cl, (h1 d (by omega)).1]
      exact nI_ge (by omega) (by omega)
    · rw [cl, (h1 d (by omega)).2.2]
theorem rk_wanted {post : Int32 → Prop} {c o p f t : Int32} {a1 a2 a3 a4 a5 a6 a7 a8 a9 a10 a11 a12 a13 a14 a15 a16 a17 a18 a19 a20 a21 a22 a23 : Nat → Int32} {w i : Nat} (hw : w < 4) (hi : i < 140) (H0 : post 0) (H1 : post 1) : wpX_isWanted post (c, o, p, f, t, a1, a2, a3, a4, a5, a6, a7, a8, a9, a10, a11, a12, a13, a14, a15, a16, a17, a18, a19, a20, a21, a22, a23) (nI w) (nI i) := by
  have p1 : vp_in (nI i) 140 := pk_in i 140 hi
  have p2 : vp_in (nI w) 4 := pk_in w 4 hw
  exact ⟨p1, p2, br_c (fun _ => H0) (fun _ => ⟨p1, p2, br_c (fun _ => H0) (fun _ => ⟨p1, p2, br_c (fun _ => H0) (fun _ => H1)⟩)⟩)⟩
theorem rk_misses {post : Int32 → Prop} {c o p f t : Int32} {a1 a2 a3 a4 a5 a6 a7 a8 a9 a10 a11 a12 a13 a14 a15 a16 a17 a18 a19 a20 a21 a22 a23 : Nat → Int32} {w n : Nat} {r : Int32} (hw : w < 4) (hn : n ≤ 100) (hc : c = nI n) (h19 : a19 w = 0) (H : ∀ b, post b) : wpX_missesOne post (c, o, p, f, t, a1, a2, a3, a4, a5, a6, a7, a8, a9, a10, a11, a12, a13, a14, a15, a16, a17, a18, a19, a20, a21, a22, a23) (nI w) r := by
  refine ⟨pk_in w 4 hw, nm_r (e' := 0) (by rw [nI_clamp (show w < 2 ^ 31 by omega)]; exact h19) ?_⟩
  refine Exists.elim (pk_loop (σ := Int32) (fun m i s => wX_missesOne_10 post (nI w) r c o p f t a1 a2 a3 a4 a5 a6 a7 a8 a9 a10 a11 a12 a13 a14 a15 a16 a17 a18 a19 a20 a21 a22 a23 m s (nI i)) (fun _ s => s = 0 ∨ s = 1) n 0 0 (by omega) (Or.inl rfl) ?_ ?_) (fun m hm => ⟨m, hm⟩)
  · intro m s hs
    refine pk_le n n (fun _ => ⟨?_, H s⟩) (fun z => absurd z (by omega)) hc
    rcases hs with z | z
    · rw [z]
      rfl
    · rw [z]
      rfl
  · intro m i s hi hs hw'
    exact pk_le n i (fun z => absurd z (by omega)) (fun _ => br_c (fun _ => ⟨pk_in i 140 (by omega), br_c (fun _ => nm_r (nI_1 i) (hw' 0 (Or.inl rfl))) (fun _ => rk_wanted hw (by omega) (br_t rfl (nm_r (nI_1 i) (hw' 0 (Or.inl rfl)))) (br_f rk_one (nm_r (nI_1 i) (hw' 1 (Or.inr rfl)))))⟩) (fun _ => nm_r (nI_1 i) (hw' 1 (Or.inr rfl)))) hc
theorem rk_first {post : Int32 → Prop} {c o p f t : Int32} {a1 a2 a3 a4 a5 a6 a7 a8 a9 a10 a11 a12 a13 a14 a15 a16 a17 a18 a19 a20 a21 a22 a23 : Nat → Int32} (H : post 0) : wpX_firstFrom post (c, o, p, f, t, a1, a2, a3, a4, a5, a6, a7, a8, a9, a10, a11, a12, a13, a14, a15, a16, a17, a18, a19, a20, a21, a22, a23) 0 := ⟨1, br_t (by decide) H⟩
theorem rk_moveW {post : St2 → Prop} {c o p f t : Int32} {a1 a2 a3 a4 a5 a6 a7 a8 a9 a10 a11 a12 a13 a14 a15 a16 a17 a18 a19 a20 a21 a22 a23 : Nat → Int32} {n : Nat} {r : Int32} (hn : n ≤ 100) (hc : c = nI n) (h : ∀ j, j < 4 → ¬ a14 j = 0 → a19 j = 0) (H : ∀ a15' a19', post (c, o, p, f, t, a1, a2, a3, a4, a5, a6, a7, a8, a9, a10, a11, a12, a13, a14, a15', a16, a17, a18, a19', a20, a21, a22, a23)) : wpX_moveWatches post (c, o, p, f, t, a1, a2, a3, a4, a5, a6, a7, a8, a9, a10, a11, a12, a13, a14, a15, a16, a17, a18, a19, a20, a21, a22, a23) r := by
  refine Exists.elim (pk_loop (σ := (Nat → Int32) × (Nat → Int32)) (fun m i s => wX_moveWatches_2 post r c o p f t m (nI i) a1 a2 a3 a4 a5 a6 a7 a8 a9 a10 a11 a12 a13 a14 s.1 a16 a17 a18 s.2 a20 a21 a22 a23) (fun _ s => ∀ j, j < 4 → ¬ a14 j = 0 → s.2 j = 0) 4 0 (a15, a19) (by omega) h ?_ ?_) (fun m hm => ⟨m, hm⟩)
  · intro m s hs
    exact pk_le 4 4 (fun _ => H _ _) (fun z => absurd z (by omega))
  · rintro m i ⟨b15, b19⟩ hi hs hw'
    have ci : (nI i).toNatClampNeg = i := nI_clamp (show i < 2 ^ 31 by omega)
    refine pk_le 4 i (fun z => absurd z (by omega)) (fun _ => ⟨pk_in i 4 hi, ?_⟩)
    refine br_c (fun _ => nm_r (nI_1 i) (hw' (b15, b19) hs)) (fun z => ⟨pk_in i 4 hi, br_c (fun _ => ?_) (fun _ => nm_r (nI_1 i) (hw' (b15, b19) hs))⟩)
    rw [ci] at z
    have e19 : b19 i = 0 := hs i hi z
    refine rk_misses hi hn hc e19 (fun b => ⟨pk_in i 4 hi, nm_e ⟨pk_in i 4 hi, ?_⟩⟩)
    dsimp only
    rw [ci, e19]
    refine rk_first ⟨pk_in i 4 hi, nm_e (nm_r (nI_1 i) (hw' (_, _) ?_))⟩
    intro j hj zj
    show upd b19 i 0 j = 0
    by_cases e : j = i
    · subst e
      exact pk_us
    · rw [pk_un e]
      exact hs j hj zj
theorem rk_c119 {post : Int32 → St2 → Prop} {c o p f t : Int32} {a1 a2 a3 a4 a5 a6 a7 a8 a9 a10 a11 a12 a13 a14 a15 a16 a17 a18 a19 a20 a21 a22 a23 : Nat → Int32} {n q : Nat} (hn : n ≤ 100) (hq : q ≤ n) (hc : c = nI n) (h : ∀ j, j < n → a1 j = nI (j + 1) ∧ a7 j = rk_b j) (hR : rk_R q n a10) (H : ∀ u', post (nI (n - q)) u') : ∃ fu, wX_compact_119 post (nI q) (nI (rk_cnt a10 n)) fu 0 c 0 p f t a1 a2 a3 a4 a5 a6 a7 a8 a9 a10 a11 a12 a13 a14 a15 a16 a17 a18 a19 a20 a21 a22 a23 := by
  refine Exists.elim (pk_loop (σ := Int32 × (Nat → Int32) × (Nat → Int32) × (Nat → Int32) × (Nat → Int32) × (Nat → Int32) × (Nat → Int32) × (Nat → Int32)) (fun m i s => wX_compact_119 post (nI q) (nI (rk_cnt a10 n)) m (nI i) c s.1 p f t s.2.1 s.2.2.1 s.2.2.2.1 s.2.2.2.2.1 s.2.2.2.2.2.1 s.2.2.2.2.2.2.1 s.2.2.2.2.2.2.2 a8 a9 a10 a11 a12 a13 a14 a15 a16 a17 a18 a19 a20 a21 a22 a23)
    (fun i s => s.1 = nI (rk_cnt a10 (min i q)) ∧ ∀ j, i ≤ j → j < n → s.2.1 j = nI (j + 1) ∧ s.2.2.2.2.2.2.2 j = rk_b j) n 0 (0, a1, a2, a3, a4, a5, a6, a7) (by omega) ⟨by rw [Nat.zero_min]; rfl, fun j _ hj => h j hj⟩ ?_ ?_) (fun m hm => ⟨m, hm⟩)
  · rintro m ⟨b0, b1, b2, b3, b4, b5, b6, b7⟩ ⟨g1, _⟩
    have hv : nI (rk_cnt a10 n) - b0 = nI (n - q) := by
      have g1' : b0 = nI (rk_cnt a10 (min n q)) := g1
      have hd := rk_R_q hR hn (n - q) (by omega)
      rw [show q + (n - q) = n by omega] at hd
      rw [g1', show min n q = q by omega, hd, pk_sub (by omega)]
      congr 1
      omega
    refine pk_le n n (fun _ => ?_) (fun z => absurd z (by omega)) hc
    show post (nI (rk_cnt a10 n) - b0) _
    rw [hv]
    exact H _
  · rintro m i ⟨b0, b1, b2, b3, b4, b5, b6, b7⟩ hi ⟨g1, g2⟩ hw'
    have ci : (nI i).toNatClampNeg = i := nI_clamp (show i < 2 ^ 31 by omega)
    have g1' : b0 = nI (rk_cnt a10 (min i q)) := g1
    have g2' : ∀ j, i ≤ j → j < n → b1 j = nI (j + 1) ∧ b7 j = rk_b j := g2
    show wX_compact_119 post (nI q) (nI (rk_cnt a10 n)) (m + 1) (nI i) c b0 p f t b1 b2 b3 b4 b5 b6 b7 a8 a9 a10 a11 a12 a13 a14 a15 a16 a17 a18 a19 a20 a21 a22 a23
    refine pk_le n i (fun z => absurd z (by omega)) (fun _ => ⟨pk_in i 140 (by omega), ?_⟩) hc
    have l := rk_cnt_le a10 i
    rcases hR i hi with g | ⟨g, giq⟩
    · have tn : (nI (rk_cnt a10 i)).toNatClampNeg = rk_cnt a10 i := nI_clamp (show rk_cnt a10 i < 2 ^ 31 by omega)
      have gne : ¬ a10 i = -1 := by
        rw [g]
        exact rk_ne (by omega)
      refine nm_r (e' := nI (rk_cnt a10 i)) (by rw [ci]; exact g) (br_f (rk_ne (by omega)) ⟨pk_in i 140 (by omega), rk_renum (by rw [ci, (g2' i (by omega) hi).2]; exact rk_b_in (by omega)) (fun y => ⟨pk_in i 140 (by omega), nm_e ?_⟩)⟩)
      refine rk_moveC (i := i) (t' := rk_cnt a10 i) (by omega) (by omega) (fun b2' b3' b4' b5' b6' => ⟨pk_in (rk_cnt a10 i) 140 (by omega), ?_⟩)
      rw [ci, tn, pk_us, (g2' i (by omega) hi).1]
      have keep : ∀ j, i + 1 ≤ j → j < n → upd b1 (rk_cnt a10 i) (nI (i + 1)) j = nI (j + 1) ∧ upd (upd b7 i y) (rk_cnt a10 i) (upd b7 i y i) j = rk_b j := by
        intro j hj hjn
        rw [pk_un (by omega), pk_un (by omega), pk_un (by omega)]
        exact g2' j (by omega) hjn
      refine pk_lt q (i + 1) (fun z => nm_r (nI_1 i) (hw' (b0, upd b1 (rk_cnt a10 i) (nI (i + 1)), b2', b3', b4', b5', b6', upd (upd b7 i y) (rk_cnt a10 i) (upd b7 i y i)) ⟨?_, keep⟩)) (fun z => nm_e (nm_r (nI_1 i) (hw' (b0 + 1, upd b1 (rk_cnt a10 i) (nI (i + 1)), b2', b3', b4', b5', b6', upd (upd b7 i y) (rk_cnt a10 i) (upd b7 i y i)) ⟨?_, keep⟩)))
      · show b0 = nI (rk_cnt a10 (min (i + 1) q))
        rw [g1', show min (i + 1) q = min i q by omega]
      · show b0 + 1 = nI (rk_cnt a10 (min (i + 1) q))
        rw [g1', show min (i + 1) q = i + 1 by omega, show min i q = i by omega, rk_cnt_s gne, nI_1]
    · refine nm_r (e' := -1) (by rw [ci]; exact g) (br_t rfl (nm_r (nI_1 i) (hw' (b0, b1, b2, b3, b4, b5, b6, b7) ⟨?_, fun j hj hjn => g2' j (by omega) hjn⟩)))
      show b0 = nI (rk_cnt a10 (min (i + 1) q))
      rw [g1', show min (i + 1) q = i + 1 by omega, show min i q = i by omega, rk_cnt_n g]
theorem rk_c84 {post : Int32 → St2 → Prop} {c o p f t : Int32} {a1 a2 a3 a4 a5 a6 a7 a8 a9 a10 a11 a12 a13 a14 a15 a16 a17 a18 a19 a20 a21 a22 a23 : Nat → Int32} {k n q : Nat} (hn : n ≤ 100) (hq : q ≤ n) (hc : c = nI n) (h : ∀ j, j < n → a1 j = nI (j + 1) ∧ a2 j = nI k ∧ a7 j = rk_b j) (h8 : ∀ j, j < 16 → a8 j = rk_l k n j) (hR : rk_R q n a10) (H : ∀ u', post (nI (n - q)) u') : ∃ fu, wX_compact_84 post (nI q) (nI (rk_cnt a10 n)) c o p f t fu 0 a1 a2 a3 a4 a5 a6 a7 a8 a9 a10 a11 a12 a13 a14 a15 a16 a17 a18 a19 a20 a21 a22 a23 := by
  refine Exists.elim (pk_loop (σ := Nat → Int32) (fun m i s => wX_compact_84 post (nI q) (nI (rk_cnt a10 n)) c o p f t m (nI i) a1 a2 a3 a4 a5 a6 a7 s a9 a10 a11 a12 a13 a14 a15 a16 a17 a18 a19 a20 a21 a22 a23) (fun i s => ∀ j, i ≤ j → j < 16 → s j = rk_l k n j) 16 0 a8 (by omega) (fun j _ hj => h8 j hj) ?_ ?_) (fun m hm => ⟨m, hm⟩)
  · intro m s hs
    exact pk_le 16 16 (fun _ => rk_c119 (o := o) hn hq hc (fun j hj => ⟨(h j hj).1, (h j hj).2.2⟩) hR H) (fun z => absurd z (by omega))
  · intro m i s hi hs hw'
    have ci : (nI i).toNatClampNeg = i := nI_clamp (show i < 2 ^ 31 by omega)
    refine pk_le 16 i (fun z => absurd z (by omega)) (fun _ => ⟨pk_in i 16 hi, rk_renum ?_ (fun y => ⟨pk_in i 16 hi, nm_e (nm_r (nI_1 i) (hw' _ ?_))⟩)⟩)
    · rw [ci, hs i (by omega) hi]
      unfold rk_l
      by_cases e : i = k
      · rw [if_pos e]
        exact rk_b_in (by omega)
      · rw [if_neg e]
        exact Or.inl rfl
    · intro j hj hj16
      rw [ci, pk_un (by omega)]
      exact hs j (by omega) hj16
theorem rk_c26 {post : Int32 → St2 → Prop} {c o p f t : Int32} {a1 a2 a3 a4 a5 a6 a7 a8 a9 a10 a11 a12 a13 a14 a15 a16 a17 a18 a19 a20 a21 a22 a23 : Nat → Int32} {k n q : Nat} (hk : k < 16) (hn : n ≤ 100) (hq : q ≤ n) (hc : c = nI n) (h : ∀ j, j < n → a1 j = nI (j + 1) ∧ a2 j = nI k ∧ a7 j = rk_b j) (h8 : ∀ j, j < 16 → a8 j = rk_l k n j) (h19 : ∀ j, j < 4 → ¬ a14 j = 0 → a19 j = 0) (H : ∀ u', post (nI (n - q)) u') : ∃ fu, wX_compact_26 post (nI q) c o p f t fu 0 0 a1 a2 a3 a4 a5 a6 a7 a8 a9 a10 a11 a12 a13 a14 a15 a16 a17 a18 a19 a20 a21 a22 a23 := by
  refine Exists.elim (pk_loop (σ := Int32 × (Nat → Int32)) (fun m i s => wX_compact_26 post (nI q) c o p f t m s.1 (nI i) a1 a2 a3 a4 a5 a6 a7 a8 a9 s.2 a11 a12 a13 a14 a15 a16 a17 a18 a19 a20 a21 a22 a23) (fun i s => s.1 = nI (rk_cnt s.2 i) ∧ rk_R q i s.2) n 0 (0, a10) (by omega) ⟨rfl, fun j hj => absurd hj (by omega)⟩ ?_ ?_) (fun m hm => ⟨m, hm⟩)
  · rintro m ⟨b2, b10⟩ ⟨g1, g2⟩
    have g1' : b2 = nI (rk_cnt b10 n) := g1
    subst g1'
    show wX_compact_26 post (nI q) c o p f t (m + 1) (nI (rk_cnt b10 n)) (nI n) a1 a2 a3 a4 a5 a6 a7 a8 a9 b10 a11 a12 a13 a14 a15 a16 a17 a18 a19 a20 a21 a22 a23
    exact pk_le n n (fun _ => rk_moveW hn hc h19 (fun a15' a19' => rk_c84 hn hq hc h h8 g2 H)) (fun z => absurd z (by omega)) hc
  · rintro m i ⟨b2, b10⟩ hi ⟨g1, g2⟩ hw'
    have g1' : b2 = nI (rk_cnt b10 i) := g1
    have g2' : rk_R q i b10 := g2
    have ci : (nI i).toNatClampNeg = i := nI_clamp (show i < 2 ^ 31 by omega)
    have l := rk_cnt_le b10 i
    show wX_compact_26 post (nI q) c o p f t (m + 1) b2 (nI i) a1 a2 a3 a4 a5 a6 a7 a8 a9 b10 a11 a12 a13 a14 a15 a16 a17 a18 a19 a20 a21 a22 a23
    refine pk_le n i (fun z => absurd z (by omega)) (fun _ => rk_isKept h h8 hk hn hq hi (br_f rk_one ?_) (fun hiq => br_t rfl ?_)) hc
    · unfold wX_compact_57
      rw [ci]
      refine ⟨pk_in i 140 (by omega), nm_e (br_f rk_one (nm_e (nm_r (nI_1 i) (hw' (b2 + 1, upd b10 i b2) ⟨?_, rk_R_s g2' (Or.inl g1')⟩))))⟩
      show b2 + 1 = nI (rk_cnt (upd b10 i b2) (i + 1))
      rw [rk_cnt_s (by rw [pk_us, g1']; exact rk_ne (by omega)), rk_cnt_u (Nat.le_refl i), g1', nI_1]
    · unfold wX_compact_57
      rw [ci]
      refine ⟨pk_in i 140 (by omega), nm_e (br_t rfl (nm_r (nI_1 i) (hw' (b2, upd b10 i (-1)) ⟨?_, rk_R_s g2' (Or.inr ⟨rfl, hiq⟩)⟩)))⟩
      show b2 = nI (rk_cnt (upd b10 i (-1)) (i + 1))
      rw [rk_cnt_n pk_us, rk_cnt_u (Nat.le_refl i), g1']
theorem rk_compact_s {post : Int32 → St2 → Prop} {u : St2} {la r : Int32} (h : rk_H4 la u) (H : ∀ u', post (rk_eco (-1000000001) r la) u') : wpX_compact post u r := by
  obtain ⟨kk, n, hkk, hQ, hn, hla⟩ := h
  obtain ⟨c, o, p, f, t, a1, a2, a3, a4, a5, a6, a7, a8, a9, a10, a11, a12, a13, a14, a15, a16, a17, a18, a19, a20, a21, a22, a23⟩ := u
  obtain ⟨h1, h2, h3, h4, h5, h6⟩ := hQ
  unfold rk_eco at H
  unfold wpX_compact
  dsimp only
  refine br_c (fun a => br_c (fun b => ?_) (fun b => ?_)) (fun a => ?_)
  · rw [h3] at a
    obtain ⟨q, hq, hrq⟩ := nI_of (rk_c8 a)
    subst hrq
    rw [h2] at b
    have hqn := (nI_leI hq (by omega)).mp b
    rw [if_pos a, hla, if_pos b, pk_sub hqn] at H
    exact rk_c26 hkk (by omega) hqn h1 h4 h5 h6 H
  · rw [h3] at a
    rw [h2, ← hla] at b
    rw [if_pos a, if_neg b] at H
    exact H _
  · rw [h3] at a
    rw [if_neg a] at H
    exact H _
end
section
theorem rk_init {post : St2 → Prop} (H : ∀ u, (∀ kk, kk < 16 → rk_P kk 0 0 (fun _ => 0) (fun _ => 0) u) → post u) : wpX_init post 23 1210 (0, 0, 0, 0, 0) := by
  refine ⟨by decide, by decide, by decide, by decide, by decide, by decide, by decide, by decide, by decide, by decide, by decide, by decide, by decide, by decide, by decide, by decide, by decide, by decide, by decide, by decide, by decide, by decide, by decide, by decide, by decide, by decide, by decide, by decide, by decide, by decide, by decide, by decide, by decide, by decide, by decide, by decide, by decide, by decide, by decide, by decide, by decide, by decide, by decide, by decide, by decide, by decide, ?_⟩
  refine Exists.elim (pk_loop (σ := (Nat → Int32) × (Nat → Int32)) (fun m i s => wX_init_188 post 23 1210 23 1210 0 0 0 0 0 m (nI i) (fun _ => 0) (fun _ => 0) (fun _ => 0) (fun _ => 0) (fun _ => 0) (fun _ => 0) (fun _ => 0) s.1 s.2 (fun _ => 0) (fun _ => 0) (fun _ => 0) (fun _ => 0) (fun _ => 0) (fun _ => 0) (fun _ => 0) (fun _ => 0) (fun _ => 0) (fun _ => 0) (fun _ => 0) (fun _ => 0) (fun _ => 0) (fun _ => 0) ) (fun i s => ∀ j, j < i → s.1 j = -1) 16 0 (fun _ => 0, fun _ => 0) (by omega) (fun j hj => absurd hj (by omega)) ?_ ?_) (fun m hm => ⟨m, hm⟩)
  · rintro m ⟨b8, b9⟩ hs
    refine pk_le 16 16 (fun _ => H _ (fun kk _ => ⟨rfl, rfl, rfl, rfl, fun i hi => absurd hi (by omega), fun j hj => ?_, fun _ _ => rfl, fun _ _ => rfl⟩)) (fun z => absurd z (by omega))
    show b8 j = rk_l kk 0 j
    unfold rk_l
    rw [show b8 j = -1 from hs j hj]
    by_cases e : j = kk
    · rw [if_pos e]
      rfl
    · rw [if_neg e]
  · rintro m i ⟨b8, b9⟩ hi hs hw'
    have ci : (nI i).toNatClampNeg = i := nI_clamp (show i < 2 ^ 31 by omega)
    refine pk_le 16 i (fun z => absurd z (by omega)) (fun _ => ⟨pk_in i 16 hi, nm_e ⟨pk_in i 16 hi, nm_e (nm_r (nI_1 i) (hw' (_, _) ?_))⟩⟩)
    intro j hj
    show upd b8 (nI i).toNatClampNeg (-1) j = -1
    rw [ci]
    by_cases e : j = i
    · subst e
      exact pk_us
    · rw [pk_un e]
      exact hs j (by omega)
theorem rk_law {post : Int32 → St0 → Prop} (k x l r w : Int32) (H : post 1 ()) : wpL_lawOf post 610 9760 () k x l r w := by
  unfold wpL_lawOf
  refine ⟨by decide, by decide, 23, 1210, by decide, by decide, rk_init ?_⟩
  rintro ⟨c, o, p, f, t, a1, a2, a3, a4, a5, a6, a7, a8, a9, a10, a11, a12, a13, a14, a15, a16, a17, a18, a19, a20, a21, a22, a23⟩ h0
  refine rk_put_s h0 ?_
  rintro ⟨c, o, p, f, t, a1, a2, a3, a4, a5, a6, a7, a8, a9, a10, a11, a12, a13, a14, a15, a16, a17, a18, a19, a20, a21, a22, a23⟩ h1
  refine rk_swap_s h1 ?_
  rintro ⟨c, o, p, f, t, a1, a2, a3, a4, a5, a6, a7, a8, a9, a10, a11, a12, a13, a14, a15, a16, a17, a18, a19, a20, a21, a22, a23⟩ h2
  refine rk_value_s h2 ?_
  refine rk_erase_s h2 ?_
  rintro ⟨c, o, p, f, t, a1, a2, a3, a4, a5, a6, a7, a8, a9, a10, a11, a12, a13, a14, a15, a16, a17, a18, a19, a20, a21, a22, a23⟩ h3
  refine rk_watch_s h3 ?_
  rintro ⟨c, o, p, f, t, a1, a2, a3, a4, a5, a6, a7, a8, a9, a10, a11, a12, a13, a14, a15, a16, a17, a18, a19, a20, a21, a22, a23⟩ h4
  refine rk_compact_s h4 ?_
  rintro ⟨c, o, p, f, t, a1, a2, a3, a4, a5, a6, a7, a8, a9, a10, a11, a12, a13, a14, a15, a16, a17, a18, a19, a20, a21, a22, a23⟩
  have fin := rk_chk (post := post) (mc := 610) (ms := 9760) (kc := 1 + 23) (ks := 28 + 1210) (x0 := k) (x1 := x) (x2 := l) (x3 := r) (x4 := w) (x12 := -1000000001) (x13 := rk_kf k) rfl rfl rfl rfl rfl rfl rfl rfl rfl rfl rfl rfl rfl rfl rfl rfl H
  refine br_c (fun a => ?_) (fun a => br_c (fun b => ?_) (fun b => ?_))
  · have e : rk_kf k = 0 := if_pos a
    rw [e] at fin
    rw [e]
    exact fin
  · have e : rk_kf k = 0 := by
      unfold rk_kf
      rw [if_neg a, if_pos b]
    rw [e] at fin
    rw [e]
    exact fin
  · have e : rk_kf k = 1 := by
      unfold rk_kf
      rw [if_neg a, if_neg b]
    rw [e] at fin
    rw [e]
    exact fin
theorem rk_cell {post : Int32 → Prop} {L : Nat} {xs : Nat → Int32} {u : St0} (hL : L ≤ 5) (p : Nat) (hp : p < 5) (H : ∀ y, post y) : wpL_cellAt post L xs u (nI p) := pk_le L p (fun _ => H _) (fun z => ⟨pk_in p L z, H _⟩)
theorem i_vc (xs : Nat → Int32) (L : Nat) (hL : L ≤ 5) : wpL_law (fun r => r = 1) L xs := by
  unfold wpL_law
  exact rk_cell hL 0 (by omega) (fun k => rk_cell hL 1 (by omega) (fun x => rk_cell hL 2 (by omega) (fun l => rk_cell hL 3 (by omega) (fun r => rk_cell hL 4 (by omega) (fun w => ⟨610, 9760, by omega, by omega, rk_law k x l r w rfl⟩)))))
end
