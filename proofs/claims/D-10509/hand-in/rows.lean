section
/-! ===== DeltaTree: the picture, and the methods that only read ===== -/
/-- the picture: n notes (0 .. n-1), all of them on page 0, all of them PUT of the key k; the newest one's value is v -/
def dt_K (k : Int32) (n : Nat) (v : Int32) (fn ic cn : Int32) (a2 a3 a4 a7 a8 a9 a10 a11 a12 a13 : Nat → Int32) : Prop :=
  n ≤ 4 ∧ fn = nI n ∧ ic = -1 ∧ cn = 1 ∧ a2 0 = nI n + (-1) ∧ a3 0 = nI n ∧ a4 0 = 0 ∧ a7 0 = 4096 ∧ a12 0 = 0 ∧ a13 0 = 0 ∧
  (∀ i, i < n → a8 i = 0 ∧ a9 i = k ∧ a11 i = nI i + (-1)) ∧ (∀ i, n ≤ i → i < 8 → a11 i = nI (i + 1)) ∧ (∀ i, i + 1 = n → a10 i = v) ∧
  (0 < n → ¬ k < 0 ∧ ¬ 4095 < k)
/-- the same over a whole state; e0: how many entries, s0: how many changes wait -/
def dt_U (k v : Int32) (n : Nat) (e0 s0 : Int32) (u : St2) : Prop := match u with
  | (e, fn, ic, il, cn, g, ge, st, a1, a2, a3, a4, a5, a6, a7, a8, a9, a10, a11, a12, a13, a14, a15, a16, a17, a18, a19, a20, a21) => e = e0 ∧ st = s0 ∧ dt_K k n v fn ic cn a2 a3 a4 a7 a8 a9 a10 a11 a12 a13
theorem dt_cl0 : (0 : Int32).toNatClampNeg = 0 := by decide
theorem dt_cl {n : Nat} (h : n < 8) : (nI n).toNatClampNeg = n := nI_clamp (by omega)
theorem dt_isKey {post : Int32 → Prop} {u : St0} {p : Int32} (h1 : (¬ p < 0 ∧ ¬ 4095 < p) → post 1) (h0 : ¬ (¬ p < 0 ∧ ¬ 4095 < p) → post 0) : wpX_isKey post u p :=
  br_c (fun z => h0 (fun t => t.1 z)) (fun z => br_c (fun y => h0 (fun t => t.2 y)) (fun y => h1 ⟨z, y⟩))
section
variable {k v p : Int32} {n : Nat} {e fn ic il cn g ge st : Int32} {a1 a2 a3 a4 a5 a6 a7 a8 a9 a10 a11 a12 a13 a14 a15 a16 a17 a18 a19 a20 a21 : Nat → Int32}
theorem dt_pi {post : Int32 → Prop} (hc : cn = 1) (hp : post 0) : wpX_placeInIndex post (e, fn, ic, il, cn, g, ge, st, a1, a2, a3, a4, a5, a6, a7, a8, a9, a10, a11, a12, a13, a14, a15, a16, a17, a18, a19, a20, a21) p := by
  subst hc
  exact nm_r (e' := 0) (by decide) ⟨1, br_f (by decide) (br_t (by decide) hp)⟩
theorem dt_dv7 {post : Int32 → Prop} (hn : n ≤ 4) (h : ∀ i, i < n → a8 i = 0 ∧ a9 i = k ∧ a11 i = nI i + (-1)) (hp : post (-1)) : ∀ m, m ≤ n → wX_divisionOf_7 post e fn ic il cn g ge st a1 a2 a3 a4 a5 a6 a7 a8 a9 a10 a11 a12 a13 a14 a15 a16 a17 a18 a19 a20 a21 (m + 1) (nI m + (-1))
  | 0, _ => br_t (by decide) hp
  | m + 1, hm => by
    rw [pk_m1]
    have q := h m (by omega)
    refine br_f (nI_pos (by omega)) ⟨pk_in m 160 (by omega), ?_⟩
    rw [dt_cl (show m < 8 by omega)]
    exact br_f (by rw [q.1]; decide) ⟨pk_in m 160 (by omega), nm_r q.2.2 (dt_dv7 hn h hp m (by omega))⟩
theorem dt_dv {post : Int32 → Prop} (h : dt_K k n v fn ic cn a2 a3 a4 a7 a8 a9 a10 a11 a12 a13) (hp : post (-1)) : wpX_divisionOf post (e, fn, ic, il, cn, g, ge, st, a1, a2, a3, a4, a5, a6, a7, a8, a9, a10, a11, a12, a13, a14, a15, a16, a17, a18, a19, a20, a21) 0 := by
  obtain ⟨hn, -, -, -, h2, -, -, -, -, -, hi, -⟩ := h
  exact ⟨pk_in 0 24 (by decide), nm_r h2 ⟨n + 1, dt_dv7 hn hi hp n (Nat.le_refl n)⟩⟩
theorem dt_pf {post : Int32 → St2 → Prop} (h : dt_K k n v fn ic cn a2 a3 a4 a7 a8 a9 a10 a11 a12 a13) (hp : post 0 (e, fn, ic, il, cn, g, ge, st, a1, a2, a3, a4, a5, a6, a7, a8, a9, a10, a11, a12, a13, a14, a15, a16, a17, a18, a19, a20, a21)) : wpX_pageFor post (e, fn, ic, il, cn, g, ge, st, a1, a2, a3, a4, a5, a6, a7, a8, a9, a10, a11, a12, a13, a14, a15, a16, a17, a18, a19, a20, a21) p := by
  have h' := h
  obtain ⟨hn, -, hic, hcn, h2, -, -, -, h12, h13, hi, -⟩ := h
  subst hic
  unfold wpX_pageFor
  dsimp only
  refine dt_pi hcn ⟨pk_in 0 24 (by decide), nm_r h13 (dt_pi hcn ⟨pk_in 0 24 (by decide), nm_r h12 ⟨1, ?_⟩⟩)⟩
  exact br_t (by decide) (dt_dv h' ⟨1, br_f (by decide) (br_t (by decide) hp)⟩)
theorem dt_pb {post : Int32 → Prop} (h4 : a4 0 = 0) (hp : post (-1)) : wpX_placeInBase post (e, fn, ic, il, cn, g, ge, st, a1, a2, a3, a4, a5, a6, a7, a8, a9, a10, a11, a12, a13, a14, a15, a16, a17, a18, a19, a20, a21) 0 p := by
  have t : (12 : Int32) * 0 + a4 (0 : Int32).toNatClampNeg = 0 := by rw [dt_cl0, h4]; decide
  refine nm_r (e' := 0) (by decide) ⟨pk_in 0 24 (by decide), nm_r t ⟨1, br_f (by decide) (br_t (by decide) ?_)⟩⟩
  exact ⟨pk_in 0 24 (by decide), br_t (by rw [t]; decide) hp⟩
theorem dt_in7 {post : Int32 → Prop} (hn : n ≤ 4) (h4 : a4 0 = 0) (h : ∀ i, i < n → a8 i = 0 ∧ a9 i = k ∧ a11 i = nI i + (-1)) (hk : 0 < n → ¬ k = p) (hp : post 0) : ∀ m, m ≤ n → wX_isIn_7 post 0 p e fn ic il cn g ge st a1 a2 a3 a4 a5 a6 a7 a8 a9 a10 a11 a12 a13 a14 a15 a16 a17 a18 a19 a20 a21 (m + 1) (nI m + (-1))
  | 0, _ => br_t (by decide) (dt_pb h4 (br_t (by decide) hp))
  | m + 1, hm => by
    rw [pk_m1]
    have q := h m (by omega)
    refine br_f (nI_pos (by omega)) ⟨pk_in m 160 (by omega), ?_⟩
    rw [dt_cl (show m < 8 by omega)]
    exact br_f (by rw [q.1]; decide) ⟨pk_in m 160 (by omega), br_f (by rw [q.2.1]; exact hk (by omega)) ⟨pk_in m 160 (by omega), nm_r q.2.2 (dt_in7 hn h4 h hk hp m (by omega))⟩⟩
theorem dt_in {post : Int32 → Prop} (h : dt_K k n v fn ic cn a2 a3 a4 a7 a8 a9 a10 a11 a12 a13) (h1 : 0 < n ∧ k = p → post 1) (h0 : ¬ (0 < n ∧ k = p) → post 0) : wpX_isIn post (e, fn, ic, il, cn, g, ge, st, a1, a2, a3, a4, a5, a6, a7, a8, a9, a10, a11, a12, a13, a14, a15, a16, a17, a18, a19, a20, a21) 0 p := by
  obtain ⟨hn, -, -, -, h2, -, h4, -, -, -, hi, -⟩ := h
  refine ⟨pk_in 0 24 (by decide), nm_r h2 ⟨n + 1, ?_⟩⟩
  by_cases c : 0 < n ∧ k = p
  · obtain ⟨m, rfl⟩ : ∃ m, n = m + 1 := ⟨n - 1, by omega⟩
    rw [pk_m1]
    have q := hi m (by omega)
    refine br_f (nI_pos (by omega)) ⟨pk_in m 160 (by omega), ?_⟩
    rw [dt_cl (show m < 8 by omega)]
    exact br_f (by rw [q.1]; decide) ⟨pk_in m 160 (by omega), br_t (by rw [q.2.1]; exact c.2) ⟨pk_in m 160 (by omega), br_t q.1 (h1 c)⟩⟩
  · exact dt_in7 hn h4 hi (fun z y => c ⟨z, y⟩) (h0 c) n (Nat.le_refl n)
theorem dt_vi {post : Int32 → Prop} (h : dt_K k n v fn ic cn a2 a3 a4 a7 a8 a9 a10 a11 a12 a13) (c : 0 < n ∧ k = p) (h1 : post v) : wpX_valueIn post (e, fn, ic, il, cn, g, ge, st, a1, a2, a3, a4, a5, a6, a7, a8, a9, a10, a11, a12, a13, a14, a15, a16, a17, a18, a19, a20, a21) 0 p := by
  obtain ⟨hn, -, -, -, h2, -, h4, -, -, -, hi, -, hv, -⟩ := h
  refine ⟨pk_in 0 24 (by decide), nm_r h2 ⟨n + 1, ?_⟩⟩
  obtain ⟨m, rfl⟩ : ∃ m, n = m + 1 := ⟨n - 1, by omega⟩
  rw [pk_m1]
  have q := hi m (by omega)
  have w := hv m rfl
  refine br_f (nI_pos (by omega)) ⟨pk_in m 160 (by omega), ?_⟩
  rw [dt_cl (show m < 8 by omega), w]
  exact br_t q.1 ⟨pk_in m 160 (by omega), br_t (by rw [q.2.1]; exact c.2) ⟨pk_in m 160 (by omega), h1⟩⟩
theorem dt_fk {post : Int32 → Prop} (h : dt_K k n v fn ic cn a2 a3 a4 a7 a8 a9 a10 a11 a12 a13) (h1 : post 0) : wpX_firstKeyOf post (e, fn, ic, il, cn, g, ge, st, a1, a2, a3, a4, a5, a6, a7, a8, a9, a10, a11, a12, a13, a14, a15, a16, a17, a18, a19, a20, a21) 0 := by
  obtain ⟨hn, -, -, hcn, h2, -, h4, -, h12, h13, hi, -⟩ := h
  subst hcn
  refine ⟨1, br_f (by decide) ⟨pk_in 0 24 (by decide), ?_⟩⟩
  rw [dt_cl0, h12, h13]
  exact br_t rfl ⟨pk_in 0 24 (by decide), h1⟩
end
end
section
/-! ===== a note is added; a page is gathered ===== -/
section
variable {k v p kd w : Int32} {n : Nat} {e fn ic il cn g ge st : Int32} {a1 a2 a3 a4 a5 a6 a7 a8 a9 a10 a11 a12 a13 a14 a15 a16 a17 a18 a19 a20 a21 : Nat → Int32}
theorem dt_an {post : St2 → Prop} (h : dt_K k n v fn ic cn a2 a3 a4 a7 a8 a9 a10 a11 a12 a13) (hn : n < 4)
    (hp : post (e, nI (n + 1), ic, il, cn, g, ge, st, a1, upd a2 0 (nI n), upd a3 0 (nI (n + 1)), a4, a5, a6, a7, upd a8 n kd, upd a9 n p, upd a10 n w, upd a11 n (nI n + (-1)), a12, a13, a14, a15, a16, a17, a18, a19, a20, a21)) : wpX_addNote post (e, fn, ic, il, cn, g, ge, st, a1, a2, a3, a4, a5, a6, a7, a8, a9, a10, a11, a12, a13, a14, a15, a16, a17, a18, a19, a20, a21) 0 kd p w := by
  obtain ⟨-, hfn, -, -, h2, h3, -, -, -, -, -, hf, -⟩ := h
  subst hfn
  have hc := dt_cl (show n < 8 by omega)
  have h11 : a11 (nI n).toNatClampNeg = nI (n + 1) := by rw [hc]; exact hf n (Nat.le_refl n) (by omega)
  have i : vp_in (nI n) 160 := pk_in n 160 (by omega)
  have z : vp_in 0 24 := pk_in 0 24 (by decide)
  unfold wpX_addNote
  dsimp only
  refine ⟨z, ?_⟩
  unfold wpX_newNote_2
  dsimp only
  refine ⟨i, nm_r h11 ⟨i, nm_r (e' := upd a8 n kd) (by rw [hc]) ⟨i, nm_r (e' := upd a9 n p) (by rw [hc]) ⟨i, nm_r (e' := upd a10 n w) (by rw [hc]) ⟨i, nm_r (e' := upd a11 n (nI n + (-1))) (by rw [hc, dt_cl0, h2]) ?_⟩⟩⟩⟩⟩
  have u3 : upd a3 (0 : Int32).toNatClampNeg (a3 (0 : Int32).toNatClampNeg + 1) = upd a3 0 (nI (n + 1)) := by rw [dt_cl0, h3, nI_1]
  refine ⟨z, nm_r (e' := upd a2 0 (nI n)) (by rw [dt_cl0]) ⟨z, z, nm_r u3 ⟨z, br_t ?_ hp⟩⟩⟩
  rw [dt_cl0, pk_us]
  exact nI_le (b := 4) (by omega) (by decide)
/-- the picture after a further PUT of the key -/
theorem dt_add (h : dt_K k n v fn ic cn a2 a3 a4 a7 a8 a9 a10 a11 a12 a13) (hn : n < 4) (hk : ¬ k < 0 ∧ ¬ 4095 < k) :
    dt_K k (n + 1) w (nI (n + 1)) ic cn (upd a2 0 (nI n)) (upd a3 0 (nI (n + 1))) a4 a7 (upd a8 n 0) (upd a9 n k) (upd a10 n w) (upd a11 n (nI n + (-1))) a12 a13 := by
  obtain ⟨-, hfn, hic, hcn, h2, h3, h4, h7, h12, h13, hi, hf, hv, -⟩ := h
  refine ⟨by omega, rfl, hic, hcn, by rw [pk_us, pk_m1], pk_us, h4, h7, h12, h13, ?_, ?_, ?_, fun _ => hk⟩
  · intro i hin
    by_cases c : i = n
    · subst c
      exact ⟨pk_us, pk_us, pk_us⟩
    · rw [pk_un c, pk_un c, pk_un c]
      exact hi i (by omega)
  · intro i h1 h8
    rw [pk_un (by omega)]
    exact hf i (by omega) h8
  · intro i e'
    have e'' : i = n := by omega
    subst e''
    exact pk_us
/-- one note is applied -/
theorem dt_ap {post : St2 → Prop} {q c : Nat} (hq : q < 8) (h8 : a8 q = 0) (h9 : a9 q = k) (hg : g = nI c) (hc : c ≤ 1) (h14 : c = 1 → a14 0 = k)
    (hp : post (e, fn, ic, il, cn, 1, ge, st, a1, a2, a3, a4, a5, a6, a7, a8, a9, a10, a11, a12, a13, upd a14 0 k, upd a15 0 (a10 q), a16, a17, a18, a19, a20, a21)) : wpX_apply post (e, fn, ic, il, cn, g, ge, st, a1, a2, a3, a4, a5, a6, a7, a8, a9, a10, a11, a12, a13, a14, a15, a16, a17, a18, a19, a20, a21) (nI q) := by
  subst hg
  have i : vp_in (nI q) 160 := pk_in q 160 (by omega)
  have z : vp_in 0 16 := pk_in 0 16 (by decide)
  have hl := dt_cl hq
  have e9 : a9 (nI q).toNatClampNeg = k := by rw [hl, h9]
  have e8 : a8 (nI q).toNatClampNeg = 0 := by rw [hl, h8]
  have u14 : upd a14 (0 : Int32).toNatClampNeg k = upd a14 0 k := by rw [dt_cl0]
  have u15 : upd a15 (0 : Int32).toNatClampNeg (a10 (nI q).toNatClampNeg) = upd a15 0 (a10 q) := by rw [dt_cl0, hl]
  refine ⟨i, nm_r e9 ⟨i, br_f (by rw [e8]; decide) ?_⟩⟩
  rcases (show c = 0 ∨ c = 1 by omega) with rfl | rfl
  · refine ⟨1, br_t (by decide) (br_t (by decide) ?_)⟩
    refine ⟨i, br_t e8 ⟨1, br_t (by decide) (br_t rfl ?_)⟩⟩
    exact nm_r (e' := 1) (by decide) ⟨z, nm_r u14 ⟨i, z, nm_r u15 hp⟩⟩
  · have e14 : a14 (0 : Int32).toNatClampNeg = k := by rw [dt_cl0]; exact h14 rfl
    refine ⟨2, br_f (by decide) ⟨z, br_t (by rw [e14]; exact Int32.le_refl k) (nm_r (e' := 0) (by decide) (nm_r (e' := 1) (by decide) ?_))⟩⟩
    refine br_t (by decide) (br_f (by decide) ⟨z, br_t e14 ?_⟩)
    refine ⟨i, br_t e8 ⟨1, br_f (by decide) (br_f (by decide) (br_f (by decide) ?_))⟩⟩
    exact nm_r (e' := 1) (by decide) ⟨z, nm_r u14 ⟨i, z, nm_r u15 hp⟩⟩
/-- the notes are applied, the oldest first -/
theorem dt_g113 {post : St2 → Prop} (hn : n ≤ 4) (hi : ∀ i, i < n → a8 i = 0 ∧ a9 i = k ∧ a11 i = nI i + (-1)) (h16 : ∀ j, j < n → a16 j = nI (n - 1 - j))
    (hp : ∀ b14 b15, (0 < n → b14 0 = k) → post (e, fn, ic, il, cn, nI (min n 1), ge, st, a1, a2, a3, a4, a5, a6, a7, a8, a9, a10, a11, a12, a13, b14, b15, a16, a17, a18, a19, a20, a21)) :
    ∀ m, m ≤ n → ∀ b14 b15 : Nat → Int32, (m < n → b14 0 = k) → wX_gather_113 post (m + 1) (nI m + (-1)) e fn ic il cn (nI (min (n - m) 1)) ge st a1 a2 a3 a4 a5 a6 a7 a8 a9 a10 a11 a12 a13 b14 b15 a16 a17 a18 a19 a20 a21
  | 0, _, b14, b15, h14 => br_t (by decide) (hp b14 b15 h14)
  | m + 1, hm, b14, b15, h14 => by
    rw [pk_m1]
    have hc := dt_cl (show m < 8 by omega)
    have q := hi (n - 1 - m) (by omega)
    refine br_f (nI_pos (by omega)) ⟨pk_in m 8 (by omega), ?_⟩
    rw [hc, h16 m (by omega)]
    refine dt_ap (k := k) (c := min (n - (m + 1)) 1) (by omega) q.1 q.2.1 rfl (by omega) (fun z => h14 (by omega)) (nm_e ?_)
    have t := dt_g113 hn hi h16 hp m (by omega) (upd b14 0 k) (upd b15 0 (a10 (n - 1 - m))) (fun _ => pk_us)
    rw [show min (n - m) 1 = 1 by omega] at t
    exact t
theorem dt_g79 {post : St2 → Prop} (hn : n ≤ 4) (hi : ∀ i, i < n → a8 i = 0 ∧ a9 i = k ∧ a11 i = nI i + (-1))
    (hp : ∀ b14 b15 b16, (0 < n → b14 0 = k) → post (e, fn, ic, il, cn, nI (min n 1), ge, st, a1, a2, a3, a4, a5, a6, a7, a8, a9, a10, a11, a12, a13, b14, b15, b16, a17, a18, a19, a20, a21)) :
    ∀ m, m ≤ n → ∀ b16 : Nat → Int32, (∀ j, j < n - m → b16 j = nI (n - 1 - j)) → wX_gather_79 post e fn ic il cn 0 ge st (m + 1) (nI (n - m)) (nI m + (-1)) a1 a2 a3 a4 a5 a6 a7 a8 a9 a10 a11 a12 a13 a14 a15 b16 a17 a18 a19 a20 a21
  | 0, _, b16, h16 => by
    refine br_t (by decide) (nm_r (e' := nI n + (-1)) (by rw [Nat.sub_zero, Int32.sub_eq_add_neg]) ⟨n + 1, ?_⟩)
    have t := dt_g113 (e := e) (fn := fn) (ic := ic) (il := il) (cn := cn) (ge := ge) (st := st) (a16 := b16) hn hi h16 (fun b14 b15 h => hp b14 b15 b16 h) n (Nat.le_refl n) a14 a15 (fun z => absurd z (by omega))
    rw [show min (n - n) 1 = 0 by omega, nI_0] at t
    exact t
  | m + 1, hm, b16, h16 => by
    rw [pk_m1]
    have hc := dt_cl (show m < 8 by omega)
    have hc' := dt_cl (show n - (m + 1) < 8 by omega)
    have q := hi m (by omega)
    refine br_f (nI_pos (by omega)) (br_f (nI_ge (b := 8) (by omega) (by decide)) ⟨pk_in (n - (m + 1)) 8 (by omega), nm_r (e' := upd b16 (n - (m + 1)) (nI m)) (by rw [hc']) (nm_r (e' := nI (n - m)) (by rw [nI_1, show n - (m + 1) + 1 = n - m by omega]) ⟨pk_in m 160 (by omega), nm_r (e' := nI m + (-1)) (by rw [hc]; exact q.2.2) ?_⟩)⟩)
    refine dt_g79 hn hi hp m (by omega) _ (fun j hj => ?_)
    by_cases c : j = n - (m + 1)
    · subst c
      rw [pk_us, show n - 1 - (n - (m + 1)) = m by omega]
    · rw [pk_un c]
      exact h16 j (by omega)
/-- the page put together: nothing, or the one key -/
theorem dt_ga {post : St2 → Prop} (h : dt_K k n v fn ic cn a2 a3 a4 a7 a8 a9 a10 a11 a12 a13)
    (hp : ∀ b14 b15 b16, (0 < n → b14 0 = k) → post (e, fn, ic, il, cn, nI (min n 1), 4096, st, a1, a2, a3, a4, a5, a6, a7, a8, a9, a10, a11, a12, a13, b14, b15, b16, a17, a18, a19, a20, a21)) : wpX_gather post (e, fn, ic, il, cn, g, ge, st, a1, a2, a3, a4, a5, a6, a7, a8, a9, a10, a11, a12, a13, a14, a15, a16, a17, a18, a19, a20, a21) 0 := by
  obtain ⟨hn, -, -, -, h2, -, h4, h7, -, -, hi, -⟩ := h
  have z : vp_in 0 24 := pk_in 0 24 (by decide)
  refine ⟨z, nm_r h4 ⟨z, nm_r h7 ⟨1, br_t (by decide) ⟨z, nm_r h2 ⟨n + 1, ?_⟩⟩⟩⟩⟩
  have t := dt_g79 (e := e) (fn := fn) (ic := ic) (il := il) (cn := cn) (ge := 4096) (st := st) (a1 := a1) (a2 := a2) (a3 := a3) (a4 := a4) (a5 := a5) (a6 := a6) (a7 := a7) (a10 := a10) (a12 := a12) (a13 := a13) (a14 := a14) (a15 := a15) (a17 := a17) (a18 := a18) (a19 := a19) (a20 := a20) (a21 := a21) hn hi hp n (Nat.le_refl n) a16 (fun j hj => absurd hj (by omega))
  rw [show n - n = 0 by omega, nI_0] at t
  exact t
end
end
section
/-! ===== the constructor ===== -/
section
variable {k v : Int32} {e fn ic il cn g ge st : Int32} {a1 a2 a3 a4 a5 a6 a7 a8 a9 a10 a11 a12 a13 a14 a15 a16 a17 a18 a19 a20 a21 : Nat → Int32}
theorem dt_fp {post : St2 → Prop} (hc : cn = 0) (hp : post (e, fn, ic, il, 1, g, ge, st, a1, a2, a3, upd a4 0 0, a5, a6, upd a7 0 4096, a8, a9, a10, a11, upd a12 0 0, upd a13 0 0, a14, a15, a16, a17, a18, a19, a20, a21)) : wpX_fillPage post (e, fn, ic, il, cn, g, ge, st, a1, a2, a3, a4, a5, a6, a7, a8, a9, a10, a11, a12, a13, a14, a15, a16, a17, a18, a19, a20, a21) 0 0 := by
  subst hc
  have z : vp_in 0 24 := pk_in 0 24 (by decide)
  refine ⟨z, nm_r (e' := upd a4 0 0) (by rw [dt_cl0]) (nm_r (e' := 0) (by decide) ⟨1, br_f (by decide) (br_t (by decide) ?_)⟩)⟩
  refine br_t (by decide) ⟨z, nm_r (e' := upd a7 0 4096) (by rw [dt_cl0]) (br_t rfl ?_)⟩
  exact ⟨z, nm_r (e' := upd a12 0 0) (by rw [dt_cl0]) ⟨z, nm_r (e' := upd a13 0 0) (by rw [dt_cl0]) (nm_r (e' := 1) (by decide) hp)⟩⟩
theorem dt_nb0 : vp_nar .boolean 0 = 0 := by decide
theorem dt_nb1 : vp_nar .boolean 1 = 1 := by decide
/-- the pages behind the first -/
theorem dt_l57 {post : St2 → Prop} (h2 : a2 0 = -1) (h3 : a3 0 = 0)
    (hp : ∀ b1 b2 b3 : Nat → Int32, b2 0 = -1 → b3 0 = 0 → post (e, fn, ic, il, cn, g, ge, st, b1, b2, b3, a4, a5, a6, a7, a8, a9, a10, a11, a12, a13, a14, a15, a16, a17, a18, a19, a20, a21)) : ∃ n, wX_layOut_57 post 0 n 1 e fn ic il cn g ge st a1 a2 a3 a4 a5 a6 a7 a8 a9 a10 a11 a12 a13 a14 a15 a16 a17 a18 a19 a20 a21 := by
  refine pk_loop (fun n i (s : (Nat → Int32) × (Nat → Int32) × (Nat → Int32)) => wX_layOut_57 post 0 n (nI i) e fn ic il cn g ge st (s.1) (s.2.1) (s.2.2) a4 a5 a6 a7 a8 a9 a10 a11 a12 a13 a14 a15 a16 a17 a18 a19 a20 a21) (fun i s => 1 ≤ i ∧ s.2.1 0 = -1 ∧ s.2.2 0 = 0) 24 1 (a1, a2, a3) (by omega) ⟨Nat.le_refl 1, h2, h3⟩ ?_ ?_
  · intro n s hs
    exact br_t (by decide) (hp s.1 s.2.1 s.2.2 hs.2.1 hs.2.2)
  · intro n i s hi hs hw
    have hc : (nI i).toNatClampNeg = i := nI_clamp (by omega)
    have z : vp_in (nI i) 24 := pk_in i 24 hi
    have p6 : (0 : Int32) ≤ 6 * nI i := by
      have t := pk_mul 6 i
      have t' : (6 : Int32) * nI i = nI (6 * i) := t
      rw [t']
      exact nI_pos' (by omega)
    refine br_f (nI_ge (b := 24) hi (by decide)) (br_f (nI_ne0 (by omega) (by omega)) (br_t p6 ?_))
    refine ⟨z, nm_r (e' := upd s.1 i 0) (by rw [hc, dt_nb0]) ⟨z, nm_r (e' := upd s.2.1 i (-1)) (by rw [hc]) ⟨z, nm_r (e' := upd s.2.2 i 0) (by rw [hc]) ⟨z, br_t (by rw [hc, pk_us]) (nm_r (nI_1 i) ?_)⟩⟩⟩⟩
    exact hw (upd s.1 i 0, upd s.2.1 i (-1), upd s.2.2 i 0) ⟨by omega, by show upd s.2.1 i (-1) 0 = -1; rw [pk_un (by omega)]; exact hs.2.1, by show upd s.2.2 i 0 0 = 0; rw [pk_un (by omega)]; exact hs.2.2⟩
theorem dt_l0 {post : St2 → Prop} (hcn : cn = 0)
    (hp : ∀ b1 b2 b3 : Nat → Int32, b2 0 = -1 → b3 0 = 0 → post (e, fn, ic, il, 1, g, ge, st, b1, b2, b3, upd a4 0 0, a5, a6, upd a7 0 4096, a8, a9, a10, a11, upd a12 0 0, upd a13 0 0, a14, a15, a16, a17, a18, a19, a20, a21)) : ∃ n, wX_layOut_57 post 0 n 0 e fn ic il cn g ge st a1 a2 a3 a4 a5 a6 a7 a8 a9 a10 a11 a12 a13 a14 a15 a16 a17 a18 a19 a20 a21 := by
  obtain ⟨n, hn⟩ := dt_l57 (post := post) (e := e) (fn := fn) (ic := ic) (il := il) (cn := 1) (g := g) (ge := ge) (st := st) (a1 := upd a1 0 1) (a2 := upd a2 0 (-1)) (a3 := upd a3 0 0) (a4 := upd a4 0 0) (a5 := a5) (a6 := a6) (a7 := upd a7 0 4096) (a8 := a8) (a9 := a9) (a10 := a10) (a11 := a11) (a12 := upd a12 0 0) (a13 := upd a13 0 0) (a14 := a14) (a15 := a15) (a16 := a16) (a17 := a17) (a18 := a18) (a19 := a19) (a20 := a20) (a21 := a21) pk_us pk_us hp
  have z : vp_in 0 24 := pk_in 0 24 (by decide)
  refine ⟨n + 1, br_f (by decide) (br_t rfl ?_)⟩
  refine ⟨z, nm_r (e' := upd a1 0 1) (by rw [dt_cl0, dt_nb1]) ⟨z, nm_r (e' := upd a2 0 (-1)) (by rw [dt_cl0]) ⟨z, nm_r (e' := upd a3 0 0) (by rw [dt_cl0]) ⟨z, br_f (by rw [dt_cl0, pk_us]; decide) (dt_fp hcn (nm_r (e' := 1) (by decide) hn))⟩⟩⟩⟩
theorem dt_lay {post : St2 → Prop} (he : e = 0) (hst : st = 0) (hp : ∀ u, dt_U k v 0 0 0 u → post u) : wpX_layOut post (e, fn, ic, il, cn, g, ge, st, a1, a2, a3, a4, a5, a6, a7, a8, a9, a10, a11, a12, a13, a14, a15, a16, a17, a18, a19, a20, a21) 0 := by
  refine pk_loop (fun n i (s : Nat → Int32) => wX_layOut_2 post 0 e fn ic il cn g ge st n (nI i) a1 a2 a3 a4 a5 a6 a7 a8 a9 a10 s a12 a13 a14 a15 a16 a17 a18 a19 a20 a21) (fun i s => ∀ j, j < i → j < 8 → s j = nI (j + 1)) 160 0 a11 (by omega) (fun j hj => absurd hj (by omega)) ?_ ?_
  · intro n s hs
    refine br_t (by decide) (dt_l0 rfl (fun b1 b2 b3 h2 h3 => hp _ ⟨he, hst, by omega, rfl, rfl, rfl, by rw [h2]; decide, by rw [h3]; decide, pk_us, pk_us, pk_us, pk_us, fun i hi => absurd hi (by omega), fun i _ h8 => hs i (by omega) h8, fun i hi => absurd hi (by omega), fun z => absurd z (by omega)⟩))
  · intro n i s hi hs hw
    have hc : (nI i).toNatClampNeg = i := nI_clamp (by omega)
    have z : vp_in (nI i) 160 := pk_in i 160 hi
    refine br_f (nI_ge (b := 160) hi (by decide)) (pk_eq i 159 (fun y => ?_) (fun y => ?_))
    · refine ⟨z, nm_r (e' := upd s i (-1)) (by rw [hc]) (nm_r (nI_1 i) (hw _ (fun j hj h8 => ?_)))⟩
      rw [pk_un (by omega)]
      exact hs j (by omega) h8
    · refine ⟨z, nm_r (e' := upd s i (nI (i + 1))) (by rw [hc, nI_1]) (nm_r (nI_1 i) (hw _ (fun j hj h8 => ?_)))⟩
      by_cases c : j = i
      · subst c
        exact pk_us
      · rw [pk_un c]
        exact hs j (by omega) h8
theorem dt_init {post : St2 → Prop} {mc ms : Nat} (hm : 21 ≤ mc) (hs : 1562 ≤ ms) (hp : ∀ u, dt_U k v 0 0 0 u → post u) : wpX_init post mc ms (0, 0, 0, 0, 0, 0, 0, 0) := by
  refine ⟨by omega, by omega, by omega, by omega, by omega, by omega, by omega, by omega, by omega, by omega, by omega, by omega, by omega, by omega, by omega, by omega, by omega, by omega, by omega, by omega, by omega, by omega, by omega, by omega, by omega, by omega, by omega, by omega, by omega, by omega, by omega, by omega, by omega, by omega, by omega, by omega, by omega, by omega, by omega, by omega, by omega, by omega, dt_lay (k := k) (v := v) rfl rfl (fun u hu => ?_)⟩
  obtain ⟨e, fn, ic, il, cn, g, ge, st, a1, a2, a3, a4, a5, a6, a7, a8, a9, a10, a11, a12, a13, a14, a15, a16, a17, a18, a19, a20, a21⟩ := u
  exact hp _ hu
end
end
section
/-! ===== the public methods, one lemma each ===== -/
theorem dt_lt {a b : Int32} : a < b ↔ a.toInt < b.toInt := Int32.lt_iff_toInt_lt
theorem dt_le {a b : Int32} : a ≤ b ↔ a.toInt ≤ b.toInt := Int32.le_iff_toInt_le
theorem dt_0 : (0 : Int32).toInt = 0 := by decide
theorem dt_4095 : (4095 : Int32).toInt = 4095 := by decide
theorem dt_4096 : (4096 : Int32).toInt = 4096 := by decide
theorem dt_hi {k q : Int32} (hk : ¬ k < 0 ∧ ¬ 4095 < k) (hq : 4096 ≤ q) : k < q := by
  rw [dt_lt, dt_lt, dt_0, dt_4095] at hk
  rw [dt_le, dt_4096] at hq
  rw [dt_lt]
  omega
theorem dt_lo {k q : Int32} (hk : ¬ k < 0 ∧ ¬ 4095 < k) (hq : q < 0) : q < k := by
  rw [dt_lt, dt_lt, dt_0, dt_4095] at hk
  rw [dt_lt, dt_0] at hq
  rw [dt_lt]
  omega
theorem dt_neg {p : Int32} (h : ¬ 0 ≤ p) : p < 0 := by
  rw [dt_le, dt_0] at h
  rw [dt_lt, dt_0]
  omega
theorem dt_asym {a b : Int32} (h : a < b) : ¬ b < a := by
  rw [dt_lt] at *
  omega
theorem dt_tr {a b c : Int32} (h : a < b) (h' : ¬ c < b) : a < c := by
  rw [dt_lt] at *
  omega
theorem dt_gt {p : Int32} (h : ¬ p ≤ 4095) : 4095 < p := by
  rw [dt_le, dt_4095] at h
  rw [dt_lt, dt_4095]
  omega
theorem dt_ngt {p : Int32} (h : p ≤ 4095) : ¬ 4095 < p := by
  rw [dt_le, dt_4095] at h
  rw [dt_lt, dt_4095]
  omega
theorem dt_nn {a b : Prop} (h : a ↔ ¬ b) (z : ¬ a) : b := Classical.byContradiction (fun c => z (h.mpr c))
section
variable {k v w p : Int32} {n : Nat} {e0 s0 : Int32} {post : Int32 → St2 → Prop} {u : St2}
theorem dt_put0 (hk : ¬ (¬ p < 0 ∧ ¬ 4095 < p)) (hp : post (-1) u) : wpX_put post u p w := by
  obtain ⟨e, fn, ic, il, cn, g, ge, st, a1, a2, a3, a4, a5, a6, a7, a8, a9, a10, a11, a12, a13, a14, a15, a16, a17, a18, a19, a20, a21⟩ := u
  unfold wpX_put
  dsimp only
  exact dt_isKey (fun z => absurd z hk) (fun _ => br_t rfl hp)
theorem dt_put1 (hU : dt_U k v 0 0 s0 u) (hk : ¬ k < 0 ∧ ¬ 4095 < k) (hp : ∀ u', dt_U k w 1 1 s0 u' → post 1 u') : wpX_put post u k w := by
  obtain ⟨e, fn, ic, il, cn, g, ge, st, a1, a2, a3, a4, a5, a6, a7, a8, a9, a10, a11, a12, a13, a14, a15, a16, a17, a18, a19, a20, a21⟩ := u
  obtain ⟨he, hst, h⟩ := hU
  subst he
  unfold wpX_put
  dsimp only
  refine dt_isKey (fun _ => br_f (by decide) (dt_pf h ?_)) (fun z => absurd hk z)
  refine dt_in h (fun z => absurd z.1 (by omega)) (fun _ => br_t rfl (br_t (show (0 : Int32) < 60 by decide) (br_t rfl ?_)))
  exact nm_r (e' := 1) (show (0 : Int32) + 1 = 1 by decide) (dt_an h (by omega) (br_t rfl (hp _ ⟨rfl, hst, dt_add h (by omega) hk⟩)))
theorem dt_put2 (hU : dt_U k v n e0 s0 u) (h0 : 0 < n) (hn : n < 4) (hp : ∀ u', dt_U k w (n + 1) e0 s0 u' → post 0 u') : wpX_put post u k w := by
  obtain ⟨e, fn, ic, il, cn, g, ge, st, a1, a2, a3, a4, a5, a6, a7, a8, a9, a10, a11, a12, a13, a14, a15, a16, a17, a18, a19, a20, a21⟩ := u
  obtain ⟨he, hst, h⟩ := hU
  subst he
  have hk : ¬ k < 0 ∧ ¬ 4095 < k := h.2.2.2.2.2.2.2.2.2.2.2.2.2 h0
  unfold wpX_put
  dsimp only
  refine dt_isKey (fun _ => br_f (by decide) (dt_pf h ?_)) (fun z => absurd hk z)
  refine dt_in h (fun _ => br_f (by decide) (br_f (by decide) ?_)) (fun z => absurd ⟨h0, rfl⟩ z)
  exact nm_r (Int32.add_zero e) (dt_an h hn (br_f (by decide) (hp _ ⟨rfl, hst, dt_add h hn hk⟩)))
theorem dt_rem1 (hU : dt_U k v n e0 s0 u) (h0 : 0 < n) (hn : n < 4) (hp : ∀ u', post 1 u') : wpX_remove post u k := by
  obtain ⟨e, fn, ic, il, cn, g, ge, st, a1, a2, a3, a4, a5, a6, a7, a8, a9, a10, a11, a12, a13, a14, a15, a16, a17, a18, a19, a20, a21⟩ := u
  obtain ⟨he, hst, h⟩ := hU
  have hk : ¬ k < 0 ∧ ¬ 4095 < k := h.2.2.2.2.2.2.2.2.2.2.2.2.2 h0
  unfold wpX_remove
  dsimp only
  refine dt_isKey (fun _ => br_f (by decide) (dt_pf h ?_)) (fun z => absurd hk z)
  exact dt_in h (fun _ => br_f (by decide) (nm_e (dt_an h hn (hp _)))) (fun z => absurd ⟨h0, rfl⟩ z)
theorem dt_rem0 (hU : dt_U k v n e0 s0 u) (h0 : ¬ 0 < n) (hp : post 0 u) : wpX_remove post u p := by
  obtain ⟨e, fn, ic, il, cn, g, ge, st, a1, a2, a3, a4, a5, a6, a7, a8, a9, a10, a11, a12, a13, a14, a15, a16, a17, a18, a19, a20, a21⟩ := u
  obtain ⟨he, hst, h⟩ := hU
  unfold wpX_remove
  dsimp only
  refine dt_isKey (fun _ => br_f (by decide) (dt_pf h ?_)) (fun _ => br_t rfl hp)
  exact dt_in h (fun z => absurd z.1 h0) (fun _ => br_t rfl hp)
theorem dt_get (hU : dt_U k v n e0 s0 u) (hp : post (if 0 < n ∧ k = p then v else 0) u) : wpX_get post u p := by
  obtain ⟨e, fn, ic, il, cn, g, ge, st, a1, a2, a3, a4, a5, a6, a7, a8, a9, a10, a11, a12, a13, a14, a15, a16, a17, a18, a19, a20, a21⟩ := u
  obtain ⟨he, hst, h⟩ := hU
  have hk : 0 < n → ¬ k < 0 ∧ ¬ 4095 < k := h.2.2.2.2.2.2.2.2.2.2.2.2.2
  unfold wpX_get
  dsimp only
  by_cases c : 0 < n ∧ k = p
  · rw [if_pos c] at hp
    refine dt_isKey (fun _ => br_f (by decide) (dt_pf h ?_)) (fun z => absurd (c.2 ▸ hk c.1) z)
    exact dt_in h (fun _ => br_f (by decide) (dt_vi h c hp)) (fun z => absurd c z)
  · rw [if_neg c] at hp
    refine dt_isKey (fun _ => br_f (by decide) (dt_pf h ?_)) (fun _ => br_t rfl hp)
    exact dt_in h (fun z => absurd z c) (fun _ => br_t rfl hp)
theorem dt_has (hU : dt_U k v n e0 s0 u) (hp : post (if 0 < n ∧ k = p then 1 else 0) u) : wpX_has post u p := by
  obtain ⟨e, fn, ic, il, cn, g, ge, st, a1, a2, a3, a4, a5, a6, a7, a8, a9, a10, a11, a12, a13, a14, a15, a16, a17, a18, a19, a20, a21⟩ := u
  obtain ⟨he, hst, h⟩ := hU
  have hk : 0 < n → ¬ k < 0 ∧ ¬ 4095 < k := h.2.2.2.2.2.2.2.2.2.2.2.2.2
  unfold wpX_has
  dsimp only
  by_cases c : 0 < n ∧ k = p
  · rw [if_pos c] at hp
    refine dt_isKey (fun _ => br_f (by decide) (dt_pf h ?_)) (fun z => absurd (c.2 ▸ hk c.1) z)
    exact dt_in h (fun _ => br_f (by decide) hp) (fun z => absurd c z)
  · rw [if_neg c] at hp
    refine dt_isKey (fun _ => br_f (by decide) (dt_pf h ?_)) (fun _ => br_t rfl hp)
    exact dt_in h (fun z => absurd z c) (fun _ => br_t rfl hp)
theorem dt_swap1 (hU : dt_U k v n e0 s0 u) (h0 : 0 < n) (hn : n < 4) (hp : ∀ u', dt_U k w (n + 1) e0 s0 u' → post 1 u') : wpX_swap post u k v w := by
  obtain ⟨e, fn, ic, il, cn, g, ge, st, a1, a2, a3, a4, a5, a6, a7, a8, a9, a10, a11, a12, a13, a14, a15, a16, a17, a18, a19, a20, a21⟩ := u
  obtain ⟨he, hst, h⟩ := hU
  have hk : ¬ k < 0 ∧ ¬ 4095 < k := h.2.2.2.2.2.2.2.2.2.2.2.2.2 h0
  unfold wpX_swap
  dsimp only
  refine dt_isKey (fun _ => br_f (by decide) (dt_pf h ?_)) (fun z => absurd hk z)
  refine dt_in h (fun _ => br_f (by decide) (dt_vi h ⟨h0, rfl⟩ (br_t rfl ?_))) (fun z => absurd ⟨h0, rfl⟩ z)
  exact dt_an h hn (hp _ ⟨he, hst, dt_add h hn hk⟩)
theorem dt_swap0 {x : Int32} (hU : dt_U k v n e0 s0 u) (c : ¬ (0 < n ∧ k = p)) (hp : post 0 u) : wpX_swap post u p x w := by
  obtain ⟨e, fn, ic, il, cn, g, ge, st, a1, a2, a3, a4, a5, a6, a7, a8, a9, a10, a11, a12, a13, a14, a15, a16, a17, a18, a19, a20, a21⟩ := u
  obtain ⟨he, hst, h⟩ := hU
  unfold wpX_swap
  dsimp only
  refine dt_isKey (fun _ => br_f (by decide) (dt_pf h ?_)) (fun _ => br_t rfl hp)
  exact dt_in h (fun z => absurd z c) (fun _ => br_t rfl hp)
theorem dt_stage1 {x : Int32} (hU : dt_U k v n e0 0 u) (hk : ¬ p < 0 ∧ ¬ 4095 < p) (hp : ∀ u', dt_U k v n e0 1 u' → post 1 u') : wpX_stage post u x p w := by
  obtain ⟨e, fn, ic, il, cn, g, ge, st, a1, a2, a3, a4, a5, a6, a7, a8, a9, a10, a11, a12, a13, a14, a15, a16, a17, a18, a19, a20, a21⟩ := u
  obtain ⟨he, hst, h⟩ := hU
  subst hst
  have z : vp_in 0 6 := pk_in 0 6 (by decide)
  unfold wpX_stage
  dsimp only
  refine dt_isKey (fun _ => br_f (by decide) (br_t (by decide) ⟨z, nm_e ⟨z, nm_e ⟨z, nm_e (nm_r (e' := 1) (by decide) (hp _ ⟨he, rfl, h⟩))⟩⟩⟩)) (fun y => absurd hk y)
theorem dt_stage0 {x : Int32} (hk : ¬ (¬ p < 0 ∧ ¬ 4095 < p)) (hp : post (-1) u) : wpX_stage post u x p w := by
  obtain ⟨e, fn, ic, il, cn, g, ge, st, a1, a2, a3, a4, a5, a6, a7, a8, a9, a10, a11, a12, a13, a14, a15, a16, a17, a18, a19, a20, a21⟩ := u
  unfold wpX_stage
  dsimp only
  exact dt_isKey (fun y => absurd y hk) (fun _ => br_t rfl hp)
theorem dt_commit (hU : dt_U k v n e0 0 u) (hp : ∀ u', dt_U k v n e0 0 u' → post e0 u') : wpX_commit post u := by
  obtain ⟨e, fn, ic, il, cn, g, ge, st, a1, a2, a3, a4, a5, a6, a7, a8, a9, a10, a11, a12, a13, a14, a15, a16, a17, a18, a19, a20, a21⟩ := u
  obtain ⟨he, hst, h⟩ := hU
  subst he hst
  exact ⟨1, br_t (by decide) ⟨1, br_t (by decide) (br_f (by decide) (hp _ ⟨rfl, rfl, h⟩))⟩⟩
end
end
section
/-! ===== next, previous, count ===== -/
section
variable {k v p q : Int32} {n : Nat} {post : Int32 → St2 → Prop} {e fn ic il cn g ge st : Int32} {a1 a2 a3 a4 a5 a6 a7 a8 a9 a10 a11 a12 a13 a14 a15 a16 a17 a18 a19 a20 a21 : Nat → Int32}
theorem dt_nx (h : dt_K k n v fn ic cn a2 a3 a4 a7 a8 a9 a10 a11 a12 a13)
    (hp : ∀ g' ge' b14 b15 b16, post (if 0 < n ∧ ¬ k < q then k else -1) (e, fn, ic, il, cn, g', ge', st, a1, a2, a3, a4, a5, a6, a7, a8, a9, a10, a11, a12, a13, b14, b15, b16, a17, a18, a19, a20, a21)) : ∃ fu, wX_next_12 post fu q 0 e fn ic il cn g ge st a1 a2 a3 a4 a5 a6 a7 a8 a9 a10 a11 a12 a13 a14 a15 a16 a17 a18 a19 a20 a21 := by
  have hk : 0 < n → ¬ k < 0 ∧ ¬ 4095 < k := h.2.2.2.2.2.2.2.2.2.2.2.2.2
  by_cases c : 4096 ≤ q
  · rw [if_neg (fun t => t.2 (dt_hi (hk t.1) c))] at hp
    exact ⟨1, br_f (by decide) (br_t c (hp g ge a14 a15 a16))⟩
  · refine ⟨2, br_f (by decide) (br_f c (dt_pf h (dt_ga h (fun b14 b15 b16 h14 => ⟨2, ?_⟩))))⟩
    by_cases h0 : 0 < n
    · rw [show min n 1 = 1 by omega]
      have e14 : b14 (0 : Int32).toNatClampNeg = k := by rw [dt_cl0]; exact h14 h0
      have z : vp_in 0 16 := pk_in 0 16 (by decide)
      refine br_f (by decide) ⟨z, ?_⟩
      rw [e14]
      by_cases d : k < q
      · rw [if_neg (fun t => t.2 d)] at hp
        refine br_t d (nm_r (e' := 1) (by decide) (br_t (by decide) (nm_r (e' := 1) (by decide) ?_)))
        exact br_f (by decide) (br_t (by decide) (hp _ _ _ _ _))
      · rw [if_pos ⟨h0, d⟩] at hp
        exact br_f d ⟨z, hp _ _ _ _ _⟩
    · rw [if_neg (fun t => h0 t.1)] at hp
      rw [show min n 1 = 0 by omega]
      refine br_t (by decide) (nm_r (e' := 1) (by decide) ?_)
      exact br_f (by decide) (br_t (by decide) (hp _ _ _ _ _))
theorem dt_pv (h : dt_K k n v fn ic cn a2 a3 a4 a7 a8 a9 a10 a11 a12 a13)
    (hp : ∀ g' ge' b14 b15 b16, post (if 0 < n ∧ ¬ q < k then k else -1) (e, fn, ic, il, cn, g', ge', st, a1, a2, a3, a4, a5, a6, a7, a8, a9, a10, a11, a12, a13, b14, b15, b16, a17, a18, a19, a20, a21)) : ∃ fu, wX_previous_17 post fu q 0 e fn ic il cn g ge st a1 a2 a3 a4 a5 a6 a7 a8 a9 a10 a11 a12 a13 a14 a15 a16 a17 a18 a19 a20 a21 := by
  have hk : 0 < n → ¬ k < 0 ∧ ¬ 4095 < k := h.2.2.2.2.2.2.2.2.2.2.2.2.2
  by_cases c : q < 0
  · rw [if_neg (fun t => t.2 (dt_lo (hk t.1) c))] at hp
    exact ⟨1, br_f (by decide) (br_t c (hp g ge a14 a15 a16))⟩
  · refine ⟨2, br_f (by decide) (br_f c (dt_pf h (dt_ga h (fun b14 b15 b16 h14 => ?_))))⟩
    have J : ∀ g' : Int32, (¬ (0 < n ∧ ¬ q < k)) → wX_previous_17 post 1 (-1) 1 e fn ic il cn g' 4096 st a1 a2 a3 a4 a5 a6 a7 a8 a9 a10 a11 a12 a13 b14 b15 b16 a17 a18 a19 a20 a21 := by
      intro g' d
      rw [if_neg d] at hp
      exact br_f (by decide) (br_t (by decide) (hp _ _ _ _ _))
    by_cases h0 : 0 < n
    · rw [show min n 1 = 1 by omega]
      have e14 : b14 (0 : Int32).toNatClampNeg = k := by rw [dt_cl0]; exact h14 h0
      have z : vp_in 0 16 := pk_in 0 16 (by decide)
      refine nm_r (e' := 0) (by decide) ⟨2, br_f (by decide) ⟨z, ?_⟩⟩
      rw [e14]
      by_cases d : q < k
      · exact br_t d (nm_r (e' := -1) (by decide) (br_t (by decide) (dt_fk h (nm_r (e' := -1) (by decide) (nm_r (e' := 1) (by decide) (J _ (fun t => t.2 d)))))))
      · rw [if_pos ⟨h0, d⟩] at hp
        exact br_f d ⟨z, hp _ _ _ _ _⟩
    · rw [show min n 1 = 0 by omega]
      exact nm_r (e' := -1) (by decide) ⟨1, br_t (by decide) (dt_fk h (nm_r (e' := -1) (by decide) (nm_r (e' := 1) (by decide) (J _ (fun t => h0 t.1)))))⟩
theorem dt_ct (h : dt_K k n v fn ic cn a2 a3 a4 a7 a8 a9 a10 a11 a12 a13)
    (hp : ∀ g' ge' b14 b15 b16, post (if 0 < n ∧ ¬ k < q ∧ ¬ p < k then 1 else 0) (e, fn, ic, il, cn, g', ge', st, a1, a2, a3, a4, a5, a6, a7, a8, a9, a10, a11, a12, a13, b14, b15, b16, a17, a18, a19, a20, a21)) : ∃ fu, wX_count_16 post p fu 0 q 0 e fn ic il cn g ge st a1 a2 a3 a4 a5 a6 a7 a8 a9 a10 a11 a12 a13 a14 a15 a16 a17 a18 a19 a20 a21 := by
  have hk : 0 < n → ¬ k < 0 ∧ ¬ 4095 < k := h.2.2.2.2.2.2.2.2.2.2.2.2.2
  by_cases c : 4096 ≤ q
  · rw [if_neg (fun t => t.2.1 (dt_hi (hk t.1) c))] at hp
    exact ⟨1, br_f (by decide) (br_t c (hp g ge a14 a15 a16))⟩
  · by_cases c2 : p < q
    · rw [if_neg (fun t => t.2.2 (dt_tr c2 t.2.1))] at hp
      exact ⟨1, br_f (by decide) (br_f c (br_t c2 (hp g ge a14 a15 a16)))⟩
    · refine ⟨2, br_f (by decide) (br_f c (br_f c2 (dt_pf h (dt_ga h (fun b14 b15 b16 h14 => ⟨2, ?_⟩)))))⟩
      have J : ∀ g' r : Int32, r = (if 0 < n ∧ ¬ k < q ∧ ¬ p < k then 1 else 0) → wX_count_16 post p 1 r 4096 1 e fn ic il cn g' 4096 st a1 a2 a3 a4 a5 a6 a7 a8 a9 a10 a11 a12 a13 b14 b15 b16 a17 a18 a19 a20 a21 := by
        intro g' r e'
        subst e'
        exact br_f (by decide) (br_t (by decide) (hp _ _ _ _ _))
      by_cases h0 : 0 < n
      · rw [show min n 1 = 1 by omega]
        have e14 : b14 (0 : Int32).toNatClampNeg = k := by rw [dt_cl0]; exact h14 h0
        have z : vp_in 0 16 := pk_in 0 16 (by decide)
        refine br_f (by decide) ⟨z, ?_⟩
        rw [e14]
        by_cases d : k < q
        · exact br_t d (nm_r (e' := 0) (by decide) (nm_r (e' := 1) (by decide) (br_t (by decide) (nm_r (e' := 1) (by decide) (J _ 0 (if_neg (fun t => t.2.1 d)).symm)))))
        · refine br_f d ⟨z, ?_⟩
          by_cases d2 : p < k
          · exact br_t d2 (nm_r (e' := 0) (by decide) (nm_r (e' := 1) (by decide) (br_t (by decide) (nm_r (e' := 1) (by decide) (J _ 0 (if_neg (fun t => t.2.2 d2)).symm)))))
          · exact br_f d2 (nm_r (e' := 1) (by decide) (nm_r (e' := 1) (by decide) (br_t (by decide) (nm_r (e' := 1) (by decide) (J _ 1 (if_pos ⟨h0, d, d2⟩).symm)))))
      · rw [show min n 1 = 0 by omega]
        exact br_t (by decide) (nm_r (e' := 1) (by decide) (J _ 0 (if_neg (fun t => h0 t.1)).symm))
end
section
variable {k v p : Int32} {n : Nat} {e0 s0 : Int32} {post : Int32 → St2 → Prop} {u : St2}
theorem dt_next (hU : dt_U k v n e0 s0 u) (hp : ∀ u', dt_U k v n e0 s0 u' → post (if 0 < n ∧ ¬ k < p then k else -1) u') : wpX_next post u p := by
  obtain ⟨e, fn, ic, il, cn, g, ge, st, a1, a2, a3, a4, a5, a6, a7, a8, a9, a10, a11, a12, a13, a14, a15, a16, a17, a18, a19, a20, a21⟩ := u
  obtain ⟨he, hst, h⟩ := hU
  have hk : 0 < n → ¬ k < 0 ∧ ¬ 4095 < k := h.2.2.2.2.2.2.2.2.2.2.2.2.2
  refine br_c (fun _ => dt_nx h (fun g' ge' b14 b15 b16 => hp _ ⟨he, hst, h⟩)) (fun z => dt_nx h (fun g' ge' b14 b15 b16 => ?_))
  have c : (if 0 < n ∧ ¬ k < 0 then k else (-1 : Int32)) = (if 0 < n ∧ ¬ k < p then k else -1) := by
    by_cases h0 : 0 < n
    · rw [if_pos ⟨h0, (hk h0).1⟩, if_pos ⟨h0, dt_asym (dt_lo (hk h0) (dt_neg z))⟩]
    · rw [if_neg (fun t => h0 t.1), if_neg (fun t => h0 t.1)]
  rw [c]
  exact hp _ ⟨he, hst, h⟩
theorem dt_prev (hU : dt_U k v n e0 s0 u) (hp : ∀ u', dt_U k v n e0 s0 u' → post (if 0 < n ∧ ¬ p < k then k else -1) u') : wpX_previous post u p := by
  obtain ⟨e, fn, ic, il, cn, g, ge, st, a1, a2, a3, a4, a5, a6, a7, a8, a9, a10, a11, a12, a13, a14, a15, a16, a17, a18, a19, a20, a21⟩ := u
  obtain ⟨he, hst, h⟩ := hU
  have hk : 0 < n → ¬ k < 0 ∧ ¬ 4095 < k := h.2.2.2.2.2.2.2.2.2.2.2.2.2
  refine br_c (fun _ => dt_pv h (fun g' ge' b14 b15 b16 => hp _ ⟨he, hst, h⟩)) (fun z => dt_pv h (fun g' ge' b14 b15 b16 => ?_))
  have c : (if 0 < n ∧ ¬ 4095 < k then k else (-1 : Int32)) = (if 0 < n ∧ ¬ p < k then k else -1) := by
    by_cases h0 : 0 < n
    · rw [if_pos ⟨h0, (hk h0).2⟩, if_pos ⟨h0, fun y => (hk h0).2 (dt_tr (dt_gt z) (dt_asym y))⟩]
    · rw [if_neg (fun t => h0 t.1), if_neg (fun t => h0 t.1)]
  rw [c]
  exact hp _ ⟨he, hst, h⟩
theorem dt_count {x : Int32} (hU : dt_U k v n e0 s0 u) (hp : ∀ u', dt_U k v n e0 s0 u' → post (if 0 < n ∧ ¬ k < p ∧ ¬ x < k then 1 else 0) u') : wpX_count post u p x := by
  obtain ⟨e, fn, ic, il, cn, g, ge, st, a1, a2, a3, a4, a5, a6, a7, a8, a9, a10, a11, a12, a13, a14, a15, a16, a17, a18, a19, a20, a21⟩ := u
  obtain ⟨he, hst, h⟩ := hU
  have hk : 0 < n → ¬ k < 0 ∧ ¬ 4095 < k := h.2.2.2.2.2.2.2.2.2.2.2.2.2
  refine br_c (fun _ => dt_ct h (fun g' ge' b14 b15 b16 => hp _ ⟨he, hst, h⟩)) (fun z => dt_ct h (fun g' ge' b14 b15 b16 => ?_))
  have c : (if 0 < n ∧ ¬ k < 0 ∧ ¬ x < k then 1 else (0 : Int32)) = (if 0 < n ∧ ¬ k < p ∧ ¬ x < k then 1 else 0) := by
    by_cases h0 : 0 < n
    · by_cases d : x < k
      · rw [if_neg (fun t => t.2.2 d), if_neg (fun t => t.2.2 d)]
      · rw [if_pos ⟨h0, (hk h0).1, d⟩, if_pos ⟨h0, dt_asym (dt_lo (hk h0) (dt_neg z)), d⟩]
    · rw [if_neg (fun t => h0 t.1), if_neg (fun t => h0 t.1)]
  rw [c]
  exact hp _ ⟨he, hst, h⟩
end
end
section
/-! ===== the law, from its end to its beginning ===== -/
section
variable {post : Int32 → St0 → Prop} {mc ms kc ks n : Nat} {v e0 s0 x0 x1 x2 x3 x4 x6 x7 z0 z1 : Int32} {e fn ic il cn g ge st : Int32} {a1 a2 a3 a4 a5 a6 a7 a8 a9 a10 a11 a12 a13 a14 a15 a16 a17 a18 a19 a20 a21 : Nat → Int32}
theorem dt_319 (hp : post 1 ()) (hz : z1 = z0) : wL_lawOf_319 post mc ms z0 z1 kc ks := br_t hz hp
theorem dt_300 (hp : post 1 ()) (hU : dt_U x0 v n e0 s0 (e, fn, ic, il, cn, g, ge, st, a1, a2, a3, a4, a5, a6, a7, a8, a9, a10, a11, a12, a13, a14, a15, a16, a17, a18, a19, a20, a21)) (hn : n < 4) (h6 : x6 = 0 ↔ ¬ 0 < n) (hz : z1 = z0) : wL_lawOf_300 post mc ms x0 x6 z0 z1 kc ks e fn ic il cn g ge st a1 a2 a3 a4 a5 a6 a7 a8 a9 a10 a11 a12 a13 a14 a15 a16 a17 a18 a19 a20 a21 := by
  unfold wL_lawOf_300
  refine br_t hz ?_
  by_cases h0 : 0 < n
  · refine dt_rem1 hU h0 hn (fun u' => ?_)
    obtain ⟨e, fn, ic, il, cn, g, ge, st, a1, a2, a3, a4, a5, a6, a7, a8, a9, a10, a11, a12, a13, a14, a15, a16, a17, a18, a19, a20, a21⟩ := u'
    exact br_f (fun z => h6.mp z h0) (dt_319 hp rfl)
  · exact dt_rem0 hU h0 (br_t (h6.mpr h0) (dt_319 hp rfl))
theorem dt_272 (hp : post 1 ()) (hU : dt_U x0 v n e0 0 (e, fn, ic, il, cn, g, ge, st, a1, a2, a3, a4, a5, a6, a7, a8, a9, a10, a11, a12, a13, a14, a15, a16, a17, a18, a19, a20, a21)) (hn : n < 4) (h6 : x6 = 0 ↔ ¬ 0 < n) (hz : z1 = z0) : wL_lawOf_272 post mc ms x0 x2 x4 x6 z0 z1 kc ks e fn ic il cn g ge st a1 a2 a3 a4 a5 a6 a7 a8 a9 a10 a11 a12 a13 a14 a15 a16 a17 a18 a19 a20 a21 := by
  unfold wL_lawOf_272
  refine br_t hz ?_
  by_cases c : ¬ x2 < 0 ∧ ¬ 4095 < x2
  · refine dt_stage1 hU c (fun u' hU' => ?_)
    obtain ⟨e, fn, ic, il, cn, g, ge, st, a1, a2, a3, a4, a5, a6, a7, a8, a9, a10, a11, a12, a13, a14, a15, a16, a17, a18, a19, a20, a21⟩ := u'
    exact br_f c.1 (br_c (fun _ => dt_300 hp hU' hn h6 rfl) (fun z => absurd (dt_gt z) c.2))
  · refine dt_stage0 c ?_
    refine br_c (fun _ => ?_) (fun z => br_c (fun y => absurd ⟨z, fun t => dt_ngt y t⟩ c) (fun _ => ?_))
    · unfold wL_lawOf_295
      exact dt_300 hp hU hn h6 rfl
    · unfold wL_lawOf_295
      exact dt_300 hp hU hn h6 rfl
theorem dt_242 (hp : post 1 ()) (hU : dt_U x0 v n e0 0 (e, fn, ic, il, cn, g, ge, st, a1, a2, a3, a4, a5, a6, a7, a8, a9, a10, a11, a12, a13, a14, a15, a16, a17, a18, a19, a20, a21)) (hn : n < 4) (h6 : x6 = 0 ↔ ¬ 0 < n) (h70 : x7 = 0 → v = x1) (h71 : ¬ x7 = 0 → 0 < n ∧ v = x3) (hz : z1 = z0) : wL_lawOf_242 post mc ms x0 x1 x2 x3 x4 x6 x7 z0 z1 kc ks e fn ic il cn g ge st a1 a2 a3 a4 a5 a6 a7 a8 a9 a10 a11 a12 a13 a14 a15 a16 a17 a18 a19 a20 a21 := by
  unfold wL_lawOf_242
  refine br_t hz (dt_get hU ?_)
  refine br_c (fun z => br_c (fun y => ?_) (fun y => ?_)) (fun z => ?_)
  · exact dt_272 hp hU hn h6 (if_neg (fun t => h6.mp y t.1))
  · exact dt_272 hp hU hn h6 (by rw [if_pos ⟨dt_nn h6 y, rfl⟩]; exact h70 z)
  · exact dt_272 hp hU hn h6 (by rw [if_pos ⟨(h71 z).1, rfl⟩]; exact (h71 z).2)
theorem dt_221 (hp : post 1 ()) (hU : dt_U x0 x1 n e0 0 (e, fn, ic, il, cn, g, ge, st, a1, a2, a3, a4, a5, a6, a7, a8, a9, a10, a11, a12, a13, a14, a15, a16, a17, a18, a19, a20, a21)) (hn : n < 3) (h6 : x6 = 0 ↔ ¬ 0 < n) (h7 : x7 = 0 ↔ ¬ (0 < n ∧ x0 = x2)) (hz : z1 = z0) : wL_lawOf_221 post mc ms x0 x1 x2 x3 x4 x6 x7 z0 z1 kc ks e fn ic il cn g ge st a1 a2 a3 a4 a5 a6 a7 a8 a9 a10 a11 a12 a13 a14 a15 a16 a17 a18 a19 a20 a21 := by
  unfold wL_lawOf_221
  refine br_t hz ?_
  by_cases c : 0 < n ∧ x0 = x2
  · have c7 : ¬ x7 = 0 := fun z => h7.mp z c
    obtain ⟨h0, e2⟩ := c
    subst e2
    refine dt_swap1 hU h0 (by omega) (fun u' hU' => ?_)
    obtain ⟨e, fn, ic, il, cn, g, ge, st, a1, a2, a3, a4, a5, a6, a7, a8, a9, a10, a11, a12, a13, a14, a15, a16, a17, a18, a19, a20, a21⟩ := u'
    exact br_f c7 (dt_242 hp hU' (by omega) ⟨fun z => absurd h0 (h6.mp z), fun z => absurd (Nat.succ_pos n) z⟩ (fun z => absurd z c7) (fun _ => ⟨Nat.succ_pos n, rfl⟩) rfl)
  · have c7 : x7 = 0 := h7.mpr c
    exact dt_swap0 hU c (br_t c7 (dt_242 hp hU (by omega) h6 (fun _ => rfl) (fun z => absurd c7 z) rfl))
theorem dt_187 (hp : post 1 ()) (hU : dt_U x0 x1 n e0 0 (e, fn, ic, il, cn, g, ge, st, a1, a2, a3, a4, a5, a6, a7, a8, a9, a10, a11, a12, a13, a14, a15, a16, a17, a18, a19, a20, a21)) (hn : n < 3) (h6 : x6 = 0 ↔ ¬ 0 < n) (h7 : x7 = 0 ↔ ¬ (0 < n ∧ x0 = x2)) (hz : z1 = z0) : wL_lawOf_187 post mc ms x0 x1 x2 x3 x4 x6 x7 z0 z1 kc ks e fn ic il cn g ge st a1 a2 a3 a4 a5 a6 a7 a8 a9 a10 a11 a12 a13 a14 a15 a16 a17 a18 a19 a20 a21 := by
  unfold wL_lawOf_187
  refine br_t hz (dt_count hU (fun u' hU' => ?_))
  obtain ⟨e, fn, ic, il, cn, g, ge, st, a1, a2, a3, a4, a5, a6, a7, a8, a9, a10, a11, a12, a13, a14, a15, a16, a17, a18, a19, a20, a21⟩ := u'
  refine br_c (fun z => ?_) (fun z => br_c (fun y => ?_) (fun y => br_c (fun x => ?_) (fun x => ?_)))
  · unfold wL_lawOf_220
    exact dt_221 hp hU' hn h6 h7 (if_neg (fun t => h6.mp z t.1))
  · unfold wL_lawOf_220
    exact dt_221 hp hU' hn h6 h7 (if_neg (fun t => t.2.1 y))
  · unfold wL_lawOf_220
    exact dt_221 hp hU' hn h6 h7 (if_neg (fun t => t.2.2 x))
  · exact dt_221 hp hU' hn h6 h7 (if_pos ⟨dt_nn h6 z, y, x⟩)
theorem dt_163 (hp : post 1 ()) (hU : dt_U x0 x1 n e0 0 (e, fn, ic, il, cn, g, ge, st, a1, a2, a3, a4, a5, a6, a7, a8, a9, a10, a11, a12, a13, a14, a15, a16, a17, a18, a19, a20, a21)) (hn : n < 3) (h6 : x6 = 0 ↔ ¬ 0 < n) (h7 : x7 = 0 ↔ ¬ (0 < n ∧ x0 = x2)) (hz : z1 = z0) : wL_lawOf_163 post mc ms x0 x1 x2 x3 x4 x6 x7 z0 z1 kc ks e fn ic il cn g ge st a1 a2 a3 a4 a5 a6 a7 a8 a9 a10 a11 a12 a13 a14 a15 a16 a17 a18 a19 a20 a21 := by
  unfold wL_lawOf_163
  refine br_t hz (dt_prev hU (fun u' hU' => ?_))
  obtain ⟨e, fn, ic, il, cn, g, ge, st, a1, a2, a3, a4, a5, a6, a7, a8, a9, a10, a11, a12, a13, a14, a15, a16, a17, a18, a19, a20, a21⟩ := u'
  refine br_c (fun z => ?_) (fun z => br_c (fun y => ?_) (fun y => ?_))
  · unfold wL_lawOf_186
    exact dt_187 hp hU' hn h6 h7 (if_neg (fun t => h6.mp z t.1))
  · unfold wL_lawOf_186
    exact dt_187 hp hU' hn h6 h7 (if_neg (fun t => t.2 y))
  · exact dt_187 hp hU' hn h6 h7 (if_pos ⟨dt_nn h6 z, y⟩)
theorem dt_139 (hp : post 1 ()) (hU : dt_U x0 x1 n e0 0 (e, fn, ic, il, cn, g, ge, st, a1, a2, a3, a4, a5, a6, a7, a8, a9, a10, a11, a12, a13, a14, a15, a16, a17, a18, a19, a20, a21)) (hn : n < 3) (h6 : x6 = 0 ↔ ¬ 0 < n) (h7 : x7 = 0 ↔ ¬ (0 < n ∧ x0 = x2)) (hz : z1 = z0) : wL_lawOf_139 post mc ms x0 x1 x2 x3 x4 x6 x7 z0 z1 kc ks e fn ic il cn g ge st a1 a2 a3 a4 a5 a6 a7 a8 a9 a10 a11 a12 a13 a14 a15 a16 a17 a18 a19 a20 a21 := by
  unfold wL_lawOf_139
  refine br_t hz (dt_next hU (fun u' hU' => ?_))
  obtain ⟨e, fn, ic, il, cn, g, ge, st, a1, a2, a3, a4, a5, a6, a7, a8, a9, a10, a11, a12, a13, a14, a15, a16, a17, a18, a19, a20, a21⟩ := u'
  refine br_c (fun z => ?_) (fun z => br_c (fun y => ?_) (fun y => ?_))
  · unfold wL_lawOf_162
    exact dt_163 hp hU' hn h6 h7 (if_neg (fun t => h6.mp z t.1))
  · unfold wL_lawOf_162
    exact dt_163 hp hU' hn h6 h7 (if_neg (fun t => t.2 y))
  · exact dt_163 hp hU' hn h6 h7 (if_pos ⟨dt_nn h6 z, y⟩)
theorem dt_120 (hp : post 1 ()) (hU : dt_U x0 x1 n e0 0 (e, fn, ic, il, cn, g, ge, st, a1, a2, a3, a4, a5, a6, a7, a8, a9, a10, a11, a12, a13, a14, a15, a16, a17, a18, a19, a20, a21)) (hn : n < 3) (h6 : x6 = 0 ↔ ¬ 0 < n) (h7 : x7 = 0 ↔ ¬ (0 < n ∧ x0 = x2)) (hz : z1 = z0) : wL_lawOf_120 post mc ms x0 x1 x2 x3 x4 x6 x7 z0 z1 kc ks e fn ic il cn g ge st a1 a2 a3 a4 a5 a6 a7 a8 a9 a10 a11 a12 a13 a14 a15 a16 a17 a18 a19 a20 a21 := by
  unfold wL_lawOf_120
  refine br_t hz (dt_has hU ?_)
  exact br_c (fun z => dt_139 hp hU hn h6 h7 (if_neg (h7.mp z))) (fun z => dt_139 hp hU hn h6 h7 (if_pos (dt_nn h7 z)))
theorem dt_102 (hp : post 1 ()) (hU : dt_U x0 x1 n e0 0 (e, fn, ic, il, cn, g, ge, st, a1, a2, a3, a4, a5, a6, a7, a8, a9, a10, a11, a12, a13, a14, a15, a16, a17, a18, a19, a20, a21)) (hn : n < 3) (h6 : x6 = 0 ↔ ¬ 0 < n) (h7 : z0 = 0 ↔ ¬ (0 < n ∧ x0 = x2)) : wL_lawOf_102 post mc ms x0 x1 x2 x3 x4 x6 z0 kc ks e fn ic il cn g ge st a1 a2 a3 a4 a5 a6 a7 a8 a9 a10 a11 a12 a13 a14 a15 a16 a17 a18 a19 a20 a21 := by
  unfold wL_lawOf_102
  refine dt_get hU ?_
  exact br_c (fun z => dt_120 hp hU hn h6 h7 (if_neg (h7.mp z))) (fun z => dt_120 hp hU hn h6 h7 (if_pos (dt_nn h7 z)))
theorem dt_82 (hp : post 1 ()) (hU : dt_U x0 x1 n e0 0 (e, fn, ic, il, cn, g, ge, st, a1, a2, a3, a4, a5, a6, a7, a8, a9, a10, a11, a12, a13, a14, a15, a16, a17, a18, a19, a20, a21)) (hn : n < 3) (h6 : x6 = 0 ↔ ¬ 0 < n) (hz : z1 = z0) : wL_lawOf_82 post mc ms x0 x1 x2 x3 x4 x6 z0 z1 kc ks e fn ic il cn g ge st a1 a2 a3 a4 a5 a6 a7 a8 a9 a10 a11 a12 a13 a14 a15 a16 a17 a18 a19 a20 a21 := by
  unfold wL_lawOf_82
  refine br_t hz (br_c (fun z => ?_) (fun z => br_c (fun y => ?_) (fun y => ?_)))
  · unfold wL_lawOf_101
    exact dt_102 hp hU hn h6 ⟨fun _ t => h6.mp z t.1, fun _ => rfl⟩
  · exact dt_102 hp hU hn h6 ⟨fun t => absurd t (by decide), fun t => absurd ⟨dt_nn h6 z, y.symm⟩ t⟩
  · unfold wL_lawOf_101
    exact dt_102 hp hU hn h6 ⟨fun _ t => y t.2.symm, fun _ => rfl⟩
theorem dt_64 (hp : post 1 ()) (hU : dt_U x0 x1 n e0 0 (e, fn, ic, il, cn, g, ge, st, a1, a2, a3, a4, a5, a6, a7, a8, a9, a10, a11, a12, a13, a14, a15, a16, a17, a18, a19, a20, a21)) (hn : n < 3) (h6 : x6 = 0 ↔ ¬ 0 < n) (he : e0 = if 0 < n then 1 else 0) (hz : z1 = z0) : wL_lawOf_64 post mc ms x0 x1 x2 x3 x4 x6 z0 z1 kc ks e fn ic il cn g ge st a1 a2 a3 a4 a5 a6 a7 a8 a9 a10 a11 a12 a13 a14 a15 a16 a17 a18 a19 a20 a21 := by
  unfold wL_lawOf_64
  refine br_t hz (dt_commit hU (fun u' hU' => ?_))
  obtain ⟨e, fn, ic, il, cn, g, ge, st, a1, a2, a3, a4, a5, a6, a7, a8, a9, a10, a11, a12, a13, a14, a15, a16, a17, a18, a19, a20, a21⟩ := u'
  exact br_c (fun z => dt_82 hp hU' hn h6 (by rw [he, if_neg (h6.mp z)])) (fun z => dt_82 hp hU' hn h6 (by rw [he, if_pos (dt_nn h6 z)]))
theorem dt_44a (hp : post 1 ()) (hU : dt_U x0 x1 1 1 0 (e, fn, ic, il, cn, g, ge, st, a1, a2, a3, a4, a5, a6, a7, a8, a9, a10, a11, a12, a13, a14, a15, a16, a17, a18, a19, a20, a21)) (h6 : ¬ x6 = 0) (hz : z1 = z0) : wL_lawOf_44 post mc ms x0 x1 x2 x3 x4 x6 z0 z1 kc ks e fn ic il cn g ge st a1 a2 a3 a4 a5 a6 a7 a8 a9 a10 a11 a12 a13 a14 a15 a16 a17 a18 a19 a20 a21 := by
  unfold wL_lawOf_44
  refine br_t hz (dt_put2 hU (by omega) (by omega) (fun u' hU' => ?_))
  obtain ⟨e, fn, ic, il, cn, g, ge, st, a1, a2, a3, a4, a5, a6, a7, a8, a9, a10, a11, a12, a13, a14, a15, a16, a17, a18, a19, a20, a21⟩ := u'
  exact br_f h6 (dt_64 hp hU' (by omega) ⟨fun z => absurd z h6, fun z => absurd (by omega) z⟩ rfl rfl)
theorem dt_44b (hp : post 1 ()) (hU : dt_U x0 x1 0 0 0 (e, fn, ic, il, cn, g, ge, st, a1, a2, a3, a4, a5, a6, a7, a8, a9, a10, a11, a12, a13, a14, a15, a16, a17, a18, a19, a20, a21)) (h6 : x6 = 0) (hk : ¬ (¬ x0 < 0 ∧ ¬ 4095 < x0)) (hz : z1 = z0) : wL_lawOf_44 post mc ms x0 x1 x2 x3 x4 x6 z0 z1 kc ks e fn ic il cn g ge st a1 a2 a3 a4 a5 a6 a7 a8 a9 a10 a11 a12 a13 a14 a15 a16 a17 a18 a19 a20 a21 := by
  unfold wL_lawOf_44
  refine br_t hz (dt_put0 hk ?_)
  exact br_t h6 (dt_64 hp hU (by omega) ⟨fun _ => by omega, fun _ => h6⟩ rfl rfl)
theorem dt_25a (hp : post 1 ()) (hU : dt_U x0 x1 0 0 0 (e, fn, ic, il, cn, g, ge, st, a1, a2, a3, a4, a5, a6, a7, a8, a9, a10, a11, a12, a13, a14, a15, a16, a17, a18, a19, a20, a21)) (h6 : ¬ z0 = 0) (hk : ¬ x0 < 0 ∧ ¬ 4095 < x0) : wL_lawOf_25 post mc ms x0 x1 x2 x3 x4 z0 kc ks e fn ic il cn g ge st a1 a2 a3 a4 a5 a6 a7 a8 a9 a10 a11 a12 a13 a14 a15 a16 a17 a18 a19 a20 a21 := by
  unfold wL_lawOf_25
  refine dt_put1 hU hk (fun u' hU' => ?_)
  obtain ⟨e, fn, ic, il, cn, g, ge, st, a1, a2, a3, a4, a5, a6, a7, a8, a9, a10, a11, a12, a13, a14, a15, a16, a17, a18, a19, a20, a21⟩ := u'
  exact br_f h6 (dt_44a hp hU' h6 rfl)
theorem dt_25b (hp : post 1 ()) (hU : dt_U x0 x1 0 0 0 (e, fn, ic, il, cn, g, ge, st, a1, a2, a3, a4, a5, a6, a7, a8, a9, a10, a11, a12, a13, a14, a15, a16, a17, a18, a19, a20, a21)) (hk : ¬ (¬ x0 < 0 ∧ ¬ 4095 < x0)) : wL_lawOf_25 post mc ms x0 x1 x2 x3 x4 0 kc ks e fn ic il cn g ge st a1 a2 a3 a4 a5 a6 a7 a8 a9 a10 a11 a12 a13 a14 a15 a16 a17 a18 a19 a20 a21 := by
  unfold wL_lawOf_25
  exact dt_put0 hk (br_t rfl (dt_44b hp hU rfl hk rfl))
theorem dt_lawOf {u : St0} (hp : post 1 ()) (hmc : 22 ≤ mc) (hms : 1591 ≤ ms) : wpL_lawOf post mc ms u x0 x1 x2 x3 x4 := by
  refine ⟨by omega, by omega, 21, 1562, by omega, by omega, dt_init (k := x0) (v := x1) (by omega) (by omega) (fun u' hU => ?_)⟩
  obtain ⟨e, fn, ic, il, cn, g, ge, st, a1, a2, a3, a4, a5, a6, a7, a8, a9, a10, a11, a12, a13, a14, a15, a16, a17, a18, a19, a20, a21⟩ := u'
  refine br_c (fun z => ?_) (fun z => br_c (fun y => ?_) (fun y => dt_25a hp hU (by decide) ⟨z, y⟩))
  · unfold wL_lawOf_24
    exact dt_25b hp hU (fun t => t.1 z)
  · unfold wL_lawOf_24
    exact dt_25b hp hU (fun t => t.2 y)
end
theorem dt_cell {post : Int32 → Prop} {L : Nat} {xs : Nat → Int32} {u : St0} {i : Nat} (hL : L ≤ 5) (hi : i < 5) (hp : ∀ r, post r) : wpL_cellAt post L xs u (nI i) :=
  pk_le L i (fun _ => hp _) (fun z => ⟨pk_in i L z, hp _⟩)
end
section
theorem i_vc (xs : Nat → Int32) (L : Nat) (hL : L ≤ 5) : wpL_law (fun r => r = 1) L xs := by
  unfold wpL_law
  refine dt_cell (i := 0) hL (by omega) (fun r1 => ?_)
  refine dt_cell (i := 1) hL (by omega) (fun r2 => ?_)
  refine dt_cell (i := 2) hL (by omega) (fun r3 => ?_)
  refine dt_cell (i := 3) hL (by omega) (fun r4 => ?_)
  refine dt_cell (i := 4) hL (by omega) (fun r5 => ?_)
  exact ⟨828, 13248, by omega, by omega, dt_lawOf rfl (by omega) (by omega)⟩
end
