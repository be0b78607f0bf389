section
/-! the plain theory of matchings: no program in sight -/
theorem fd_pig : ∀ (n : Nat) (f : Nat → Nat), (∀ i, i < n + 1 → f i < n) → (∀ i j, i < n + 1 → j < n + 1 → f i = f j → i = j) → False := by
  intro n
  induction n with
  | zero => intro f h _; exact absurd (h 0 (by omega)) (by omega)
  | succ n ih =>
    intro f h inj
    refine ih (fun i => if f i = n then f (n + 1) else f i) (fun i hi => ?_) (fun i j hi hj e => ?_)
    · have h1 := h i (by omega)
      have h2 := h (n + 1) (by omega)
      have k2 := inj i (n + 1) (by omega) (by omega)
      by_cases e : f i = n
      · rw [if_pos e]
        have h3 : f (n + 1) ≠ n := fun e' => by
          have := k2 (by omega)
          omega
        omega
      · rw [if_neg e]
        omega
    · have k1 := inj i j (by omega) (by omega)
      have k2 := inj i (n + 1) (by omega) (by omega)
      have k3 := inj j (n + 1) (by omega) (by omega)
      by_cases e1 : f i = n
      · rw [if_pos e1] at e
        by_cases e2 : f j = n
        · exact k1 (by omega)
        · rw [if_neg e2] at e
          have := k3 e.symm
          omega
      · rw [if_neg e1] at e
        by_cases e2 : f j = n
        · rw [if_pos e2] at e
          have := k2 e
          omega
        · rw [if_neg e2] at e
          exact k1 e
def fd_up {α : Type} (f : Nat → α) (k : Nat) (x : α) : Nat → α := fun j => if j = k then x else f j
theorem fd_us {α : Type} {f : Nat → α} {k : Nat} {x : α} : fd_up f k x k = x := if_pos rfl
theorem fd_un {α : Type} {f : Nat → α} {k j : Nat} {x : α} (h : j ≠ k) : fd_up f k x j = f j := if_neg h
theorem fd_some {o : Option Nat} (h : o ≠ none) : ∃ x, o = some x := by
  cases o with
  | none => exact absurd rfl h
  | some x => exact ⟨x, rfl⟩
theorem fd_nos {o : Option Nat} {x : Nat} (h : o = some x) : o ≠ none := by
  intro z
  rw [h] at z
  exact Option.some_ne_none x z
/-- a matching of all takers -/
def fd_PM (T G : Nat) (S : Nat → Nat → Prop) : Prop :=
  ∃ m : Nat → Nat, (∀ k, k < T → m k < G ∧ S k (m k)) ∧ (∀ i j, i < T → j < T → m i = m j → i = j)
/-- the two tables of a matching agree -/
def fd_mat (T G : Nat) (S : Nat → Nat → Prop) (tk gv : Nat → Option Nat) : Prop :=
  (∀ g k, g < G → tk g = some k → k < T ∧ gv k = some g ∧ S k g) ∧ (∀ k g, k < T → gv k = some g → g < G ∧ tk g = some k)
theorem fd_PM_of {T G : Nat} {S : Nat → Nat → Prop} {tk gv : Nat → Option Nat} (h : fd_mat T G S tk gv) (ha : ∀ k, k < T → gv k ≠ none) : fd_PM T G S := by
  have key : ∀ k, k < T → gv k = some ((gv k).getD 0) := by
    intro k hk
    obtain ⟨g, hg⟩ := fd_some (ha k hk)
    rw [hg]
    rfl
  refine ⟨fun k => (gv k).getD 0, fun k hk => ?_, fun i j hi hj e => ?_⟩
  · have h2 := h.2 k _ hk (key k hk)
    exact ⟨h2.1, (h.1 _ k h2.1 h2.2).2.2⟩
  · have e' : (gv i).getD 0 = (gv j).getD 0 := e
    have hi2 := (h.2 i _ hi (key i hi)).2
    have hj2 := (h.2 j _ hj (key j hj)).2
    rw [e', hj2] at hi2
    exact (Option.some.inj hi2).symm
theorem fd_PM_mono {T T' G G' : Nat} {S S' : Nat → Nat → Prop} (hT : T' ≤ T) (hG : G ≤ G') (hS : ∀ k g, k < T' → g < G → S k g → S' k g) (h : fd_PM T G S) : fd_PM T' G' S' := by
  obtain ⟨m, h1, h2⟩ := h
  refine ⟨m, fun k hk => ?_, fun i j hi hj => h2 i j (by omega) (by omega)⟩
  have := h1 k (by omega)
  exact ⟨by omega, hS k _ hk this.1 this.2⟩
theorem fd_len {T e : Nat} {ln : Nat → Nat} (h1 : ∀ j, j < e → ln j < T) (h2 : ∀ i j, i < e → j < e → ln i = ln j → i = j) : e ≤ T := by
  rcases Nat.lt_or_ge T e with h | h
  · exact (fd_pig T ln (fun i hi => h1 i (by omega)) (fun i j hi hj => h2 i j (by omega) (by omega))).elim
  · exact h
/-- the search from the taker r: a line of e takers, each behind the first reached over a giver that it holds -/
def fd_bfs (T G : Nat) (S : Nat → Nat → Prop) (tk gv rf : Nat → Option Nat) (ln : Nat → Nat) (e r : Nat) : Prop :=
  1 ≤ e ∧ ln 0 = r ∧ gv r = none ∧ (∀ j, j < e → ln j < T) ∧ (∀ i j, i < e → j < e → ln i = ln j → i = j) ∧
  (∀ j, 1 ≤ j → j < e → ∃ g i, g < G ∧ i < j ∧ tk g = some (ln j) ∧ rf g = some (ln i)) ∧
  (∀ g k, g < G → rf g = some k → k < T ∧ S k g ∧ ∃ j, 1 ≤ j ∧ j < e ∧ tk g = some (ln j))
theorem fd_bfs_0 {T G : Nat} {S : Nat → Nat → Prop} {tk gv rf : Nat → Option Nat} {ln : Nat → Nat} {r : Nat} (hr : r < T) (hg : gv r = none) (hl : ln 0 = r) (hrf : ∀ g, g < G → rf g = none) : fd_bfs T G S tk gv rf ln 1 r := by
  refine ⟨Nat.le_refl 1, hl, hg, fun j hj => ?_, fun i j hi hj _ => by omega, fun j h1 h2 => absurd h2 (by omega), fun g k h1 h2 => ?_⟩
  · rw [show j = 0 by omega, hl]
    exact hr
  · exact absurd (hrf g h1) (fd_nos h2)
theorem fd_bfs_e {T G : Nat} {S : Nat → Nat → Prop} {tk gv rf : Nat → Option Nat} {ln : Nat → Nat} {e r : Nat} (h : fd_bfs T G S tk gv rf ln e r) : e ≤ T := fd_len h.2.2.2.1 h.2.2.2.2.1
theorem fd_bfs_add {T G : Nat} {S : Nat → Nat → Prop} {tk gv rf : Nat → Option Nat} {ln : Nat → Nat} {e r g k c : Nat} (hm : fd_mat T G S tk gv) (hb : fd_bfs T G S tk gv rf ln e r)
    (hg : g < G) (hr : rf g = none) (hk : tk g = some k) (hc : c < e) (hS : S (ln c) g) : fd_bfs T G S tk gv (fd_up rf g (some (ln c))) (fd_up ln e k) (e + 1) r := by
  obtain ⟨h1, h2, h3, h4, h5, h6, h7⟩ := hb
  have hkT := hm.1 g k hg hk
  have hnew : ∀ j, j < e → ln j ≠ k := by
    intro j hj ej
    rcases Nat.eq_zero_or_pos j with z | z
    · rw [z, h2] at ej
      rw [ej] at h3
      exact fd_nos hkT.2.1 h3
    · obtain ⟨g', i, hg', hi, ht, hrf⟩ := h6 j z hj
      rw [ej] at ht
      have t := (hm.1 g' k hg' ht).2.1
      rw [hkT.2.1] at t
      have eg : g = g' := Option.some.inj t
      rw [← eg] at hrf
      exact fd_nos hrf hr
  refine ⟨by omega, ?_, h3, ?_, ?_, ?_, ?_⟩
  · rw [fd_un (show 0 ≠ e by omega)]
    exact h2
  · intro j hj
    by_cases ej : j = e
    · rw [ej, fd_us]
      exact hkT.1
    · rw [fd_un ej]
      exact h4 j (by omega)
  · intro i j hi hj
    by_cases ei : i = e
    · by_cases ej : j = e
      · intro _
        omega
      · intro q
        rw [ei, fd_us, fd_un ej] at q
        exact absurd q.symm (hnew j (by omega))
    · by_cases ej : j = e
      · intro q
        rw [ej, fd_us, fd_un ei] at q
        exact absurd q (hnew i (by omega))
      · intro q
        rw [fd_un ei, fd_un ej] at q
        exact h5 i j (by omega) (by omega) q
  · intro j hj1 hj
    by_cases ej : j = e
    · refine ⟨g, c, hg, by omega, ?_, ?_⟩
      · rw [ej, fd_us]
        exact hk
      · rw [fd_us, fd_un (show c ≠ e by omega)]
    · obtain ⟨g', i, hg', hi, ht, hrf⟩ := h6 j hj1 (by omega)
      have hne : g' ≠ g := by
        intro z
        rw [z] at hrf
        exact fd_nos hrf hr
      refine ⟨g', i, hg', hi, ?_, ?_⟩
      · rw [fd_un ej]
        exact ht
      · rw [fd_un hne, fd_un (show i ≠ e by omega)]
        exact hrf
  · intro g' k' hg' hrf
    by_cases eg : g' = g
    · rw [eg, fd_us] at hrf
      have ek : ln c = k' := Option.some.inj hrf
      refine ⟨by rw [← ek]; exact h4 c hc, by rw [eg, ← ek]; exact hS, e, h1, by omega, ?_⟩
      rw [fd_us, eg]
      exact hk
    · rw [fd_un eg] at hrf
      obtain ⟨hT, hs, j, j1, j2, jt⟩ := h7 g' k' hg' hrf
      refine ⟨hT, hs, j, j1, by omega, ?_⟩
      rw [fd_un (show j ≠ e by omega)]
      exact jt
theorem fd_fail {T G : Nat} {S : Nat → Nat → Prop} {tk gv rf : Nat → Option Nat} {ln : Nat → Nat} {e r : Nat} (hm : fd_mat T G S tk gv) (hb : fd_bfs T G S tk gv rf ln e r)
    (hd : ∀ i g, i < e → g < G → S (ln i) g → rf g ≠ none) : ¬ fd_PM T G S := by
  intro hp
  obtain ⟨m, h, inj⟩ := hp
  obtain ⟨h1, h2, h3, h4, h5, h6, h7⟩ := hb
  have key : ∀ i, ∃ j, i < e → (j + 1 < e ∧ tk (m (ln i)) = some (ln (j + 1))) := by
    intro i
    by_cases hi : i < e
    · have hmm := h (ln i) (h4 i hi)
      obtain ⟨k, hk⟩ := fd_some (hd i _ hi hmm.1 hmm.2)
      obtain ⟨_, _, j, j1, j2, jt⟩ := h7 _ k hmm.1 hk
      refine ⟨j - 1, fun _ => ?_⟩
      rw [show j - 1 + 1 = j by omega]
      exact ⟨j2, jt⟩
    · exact ⟨0, fun z => absurd z hi⟩
  refine fd_pig (e - 1) (fun i => Classical.choose (key i)) (fun i hi => ?_) (fun i j hi hj e' => ?_)
  · have := (Classical.choose_spec (key i) (by omega)).1
    show Classical.choose (key i) < e - 1
    omega
  · have e2 : Classical.choose (key i) = Classical.choose (key j) := e'
    have p := (Classical.choose_spec (key i) (by omega)).2
    have q := (Classical.choose_spec (key j) (by omega)).2
    rw [e2] at p
    have mi := hm.1 _ _ (h (ln i) (h4 i (by omega))).1 p
    have mj := hm.1 _ _ (h (ln j) (h4 j (by omega))).1 q
    have t : m (ln i) = m (ln j) := Option.some.inj (mi.2.1.symm.trans mj.2.1)
    exact h5 i j (by omega) (by omega) (inj _ _ (h4 i (by omega)) (h4 j (by omega)) t)
/-- handing on: the giver g waits for the i-th taker of the line; all else agrees -/
def fd_hole (T G : Nat) (S : Nat → Nat → Prop) (rf : Nat → Option Nat) (ln : Nat → Nat) (e : Nat) (tk gv : Nat → Option Nat) (i g : Nat) : Prop :=
  i < e ∧ g < G ∧ rf g = some (ln i) ∧ S (ln i) g ∧ (∀ j, j < e → ln j < T) ∧ (∀ i j, i < e → j < e → ln i = ln j → i = j) ∧
  (∀ g' k, g' < G → g' ≠ g → tk g' = some k → k < T ∧ gv k = some g' ∧ S k g') ∧
  (∀ k g', k < T → gv k = some g' → g' < G ∧ g' ≠ g ∧ tk g' = some k) ∧
  (∀ j, j ≤ i → (j = 0 ∧ gv (ln j) = none) ∨ ∃ g' i', i' < j ∧ gv (ln j) = some g' ∧ rf g' = some (ln i') ∧ S (ln i') g')
theorem fd_hole_0 {T G : Nat} {S : Nat → Nat → Prop} {tk gv rf : Nat → Option Nat} {ln : Nat → Nat} {e r g c : Nat} (hm : fd_mat T G S tk gv) (hb : fd_bfs T G S tk gv rf ln e r)
    (hg : g < G) (ht : tk g = none) (hc : c < e) (hS : S (ln c) g) : fd_hole T G S (fd_up rf g (some (ln c))) ln e tk gv c g := by
  obtain ⟨h1, h2, h3, h4, h5, h6, h7⟩ := hb
  refine ⟨hc, hg, fd_us, hS, h4, h5, fun g' k hg' _ htk => hm.1 g' k hg' htk, fun k g' hk hgv => ?_, fun j hj => ?_⟩
  · have t := hm.2 k g' hk hgv
    refine ⟨t.1, ?_, t.2⟩
    intro z
    rw [z] at t
    exact fd_nos t.2 ht
  · rcases Nat.eq_zero_or_pos j with z | z
    · refine Or.inl ⟨z, ?_⟩
      rw [z, h2]
      exact h3
    · obtain ⟨g', i, hg', hi, ht', hrf⟩ := h6 j z (by omega)
      have hne : g' ≠ g := by
        intro z
        rw [z] at ht'
        exact fd_nos ht' ht
      refine Or.inr ⟨g', i, hi, (hm.1 g' _ hg' ht').2.1, ?_, (h7 g' _ hg' hrf).2.1⟩
      rw [fd_un hne]
      exact hrf
theorem fd_hole_end {T G : Nat} {S : Nat → Nat → Prop} {tk gv rf : Nat → Option Nat} {ln : Nat → Nat} {e i g : Nat} (h : fd_hole T G S rf ln e tk gv i g) (hn : gv (ln i) = none) :
    fd_mat T G S (fd_up tk g (some (ln i))) (fd_up gv (ln i) (some g)) := by
  obtain ⟨h1, h2, h3, h4, h5, h6, h7, h8, h9⟩ := h
  refine ⟨fun g' k hg' ht => ?_, fun k g' hk hgv => ?_⟩
  · by_cases eg : g' = g
    · rw [eg, fd_us] at ht
      have ek : ln i = k := Option.some.inj ht
      rw [← ek, eg, fd_us]
      exact ⟨h5 i h1, rfl, h4⟩
    · rw [fd_un eg] at ht
      obtain ⟨t1, t2, t3⟩ := h7 g' k hg' eg ht
      refine ⟨t1, ?_, t3⟩
      rw [fd_un]
      · exact t2
      · intro z
        rw [z] at t2
        exact fd_nos t2 hn
  · by_cases ek : k = ln i
    · rw [ek, fd_us] at hgv
      have eg : g = g' := Option.some.inj hgv
      rw [← eg, fd_us, ek]
      exact ⟨h2, rfl⟩
    · rw [fd_un ek] at hgv
      obtain ⟨t1, t2, t3⟩ := h8 k g' hk hgv
      refine ⟨t1, ?_⟩
      rw [fd_un t2]
      exact t3
theorem fd_hole_step {T G : Nat} {S : Nat → Nat → Prop} {tk gv rf : Nat → Option Nat} {ln : Nat → Nat} {e i g g' i' : Nat} (h : fd_hole T G S rf ln e tk gv i g) (hi : i' < i) (hv : gv (ln i) = some g') (hrf : rf g' = some (ln i')) (hS : S (ln i') g') :
    fd_hole T G S rf ln e (fd_up tk g (some (ln i))) (fd_up gv (ln i) (some g)) i' g' := by
  obtain ⟨h1, h2, h3, h4, h5, h6, h7, h8, h9⟩ := h
  have hT := h5 i h1
  obtain ⟨v1, v2, v3⟩ := h8 _ g' hT hv
  refine ⟨by omega, v1, hrf, hS, h5, h6, fun g2 k hg2 hne ht => ?_, fun k g2 hk hgv => ?_, fun j hj => ?_⟩
  · by_cases eg : g2 = g
    · rw [eg, fd_us] at ht
      have ek : ln i = k := Option.some.inj ht
      rw [← ek, eg, fd_us]
      exact ⟨hT, rfl, h4⟩
    · rw [fd_un eg] at ht
      obtain ⟨t1, t2, t3⟩ := h7 g2 k hg2 eg ht
      refine ⟨t1, ?_, t3⟩
      rw [fd_un]
      · exact t2
      · intro z
        rw [z, hv] at t2
        exact hne (Option.some.inj t2).symm
  · by_cases ek : k = ln i
    · rw [ek, fd_us] at hgv
      have eg : g = g2 := Option.some.inj hgv
      rw [← eg, fd_us, ek]
      exact ⟨h2, fun z => v2 z.symm, rfl⟩
    · rw [fd_un ek] at hgv
      obtain ⟨t1, t2, t3⟩ := h8 k g2 hk hgv
      refine ⟨t1, ?_, ?_⟩
      · intro z
        rw [z, v3] at t3
        exact ek (Option.some.inj t3).symm
      · rw [fd_un t2]
        exact t3
  · have hne : ln j ≠ ln i := fun z => by
      have := h6 j i (by omega) h1 z
      omega
    rw [fd_un hne]
    exact h9 j (by omega)
/-- what a service keeps: the served stay served, no other than r is new -/
def fd_ext (gv0 gv : Nat → Option Nat) (r : Nat) : Prop := (∀ k, gv0 k ≠ none → gv k ≠ none) ∧ (∀ k, k ≠ r → gv0 k = none → gv k = none)
theorem fd_ext_0 {gv : Nat → Option Nat} {r : Nat} : fd_ext gv gv r := ⟨fun _ h => h, fun _ _ h => h⟩
theorem fd_ext_step {gv0 gv : Nat → Option Nat} {r t g : Nat} (h : fd_ext gv0 gv r) (ht : t = r ∨ gv t ≠ none) : fd_ext gv0 (fd_up gv t (some g)) r := by
  refine ⟨fun k hk => ?_, fun k hk h0 => ?_⟩
  · by_cases e : k = t
    · rw [e, fd_us]
      exact Option.some_ne_none g
    · rw [fd_un e]
      exact h.1 k hk
  · by_cases e : k = t
    · rcases ht with z | z
      · exact absurd (e.trans z) hk
      · rw [← e] at z
        exact absurd (h.2 k hk h0) z
    · rw [fd_un e]
      exact h.2 k hk h0
end
section
/-! the walks of shift, suits, look, serve, unmatched -/
theorem fd_nb {k : Nat} (h : k < 128) : (nI k).toInt8.toInt32 = nI k := by
  have t : ∀ k, k < 128 → (nI k).toInt8.toInt32 = nI k := by decide +kernel
  exact t k h
def fd_o : Option Nat → Int32
  | none => -1
  | some k => nI k
/-- the array a holds the table f on n places -/
def fd_ma (n : Nat) (a : Nat → Int32) (f : Nat → Option Nat) : Prop := ∀ j, j < n → a j = fd_o (f j)
theorem fd_ma_up {n k : Nat} {a : Nat → Int32} {f : Nat → Option Nat} {x : Int32} {y : Option Nat} (h : fd_ma n a f) (hx : x = fd_o y) : fd_ma n (upd a k x) (fd_up f k y) := by
  intro j hj
  by_cases e : j = k
  · rw [e, pk_us, fd_us, hx]
  · rw [pk_un e, fd_un e]
    exact h j hj
/-- the giver g suits the taker k -/
def fd_S (a8 a9 a10 a11 : Nat → Int32) (k g : Nat) : Prop := ¬ a9 k < a11 g ∧ ¬ (a10 g &&& a8 k) = 0
theorem fd_shift_4 {post : St2 → Prop} {cp pr tn gn le pk : Int32} {a1 a2 a3 a4 a5 a6 a7 a8 a9 a10 a11 a13 a15 a16 a17 : Nat → Int32} {T G e r : Nat} {S : Nat → Nat → Prop} {rf gv0 : Nat → Option Nat} {ln : Nat → Nat}
    (hT : T ≤ 24) (hG : G ≤ 24) (m13 : fd_ma G a13 rf) (hl : ln 0 = r)
    (H : ∀ b12 b14 tk gv, fd_ma G b12 tk → fd_ma T b14 gv → fd_mat T G S tk gv → fd_ext gv0 gv r → gv r ≠ none → post (cp, pr, tn, gn, le, pk, a1, a2, a3, a4, a5, a6, a7, a8, a9, a10, a11, b12, a13, b14, a15, a16, a17)) :
    ∀ (d i g x : Nat) (tk gv : Nat → Option Nat) (a12 a14 : Nat → Int32), i < d → x + i < 24 → fd_ma G a12 tk → fd_ma T a14 gv → fd_hole T G S rf ln e tk gv i g → fd_ext gv0 gv r →
      wX_shift_4 post cp pr tn gn le pk (d + 1) (nI g) (nI x) a1 a2 a3 a4 a5 a6 a7 a8 a9 a10 a11 a12 a13 a14 a15 a16 a17 := by
  intro d
  induction d with
  | zero =>
    intro i g x tk gv a12 a14 hi
    exact absurd hi (by omega)
  | succ d ih =>
    intro i g x tk gv a12 a14 hi hx m12 m14 hh hext
    have hh' := hh
    obtain ⟨h1, h2, h3, h4, h5, h6, h7, h8, h9⟩ := hh'
    have hli := h5 i h1
    have ecl : (nI g).toNatClampNeg = g := nI_clamp (by omega)
    have ecl2 : (nI (ln i)).toNatClampNeg = ln i := nI_clamp (by omega)
    have e13 : a13 g = nI (ln i) := by
      rw [m13 g h2, h3]
      rfl
    have n12 : fd_ma G (upd a12 g (nI (ln i))) (fd_up tk g (some (ln i))) := fd_ma_up m12 rfl
    have n14 : fd_ma T (upd a14 (ln i) (nI g)) (fd_up gv (ln i) (some g)) := fd_ma_up m14 rfl
    have key : wX_shift_4 post cp pr tn gn le pk (d + 1) (a14 (ln i)) (nI (x + 1)) a1 a2 a3 a4 a5 a6 a7 a8 a9 a10 a11 (upd a12 g (nI (ln i))) a13 (upd a14 (ln i) (nI g)) a15 a16 a17 := by
      rcases h9 i (Nat.le_refl i) with ⟨z, hn⟩ | ⟨g', i', hi', hv, hrf, hS⟩
      · have ev : a14 (ln i) = -1 := by
          rw [m14 _ hli, hn]
          rfl
        rw [ev]
        have P := H _ _ _ _ n12 n14 (fd_hole_end hh hn) (fd_ext_step hext (Or.inl (by rw [z, hl]))) (by rw [z, hl, fd_us]; exact Option.some_ne_none g)
        exact br_c (fun _ => P) (fun _ => br_t (by decide) P)
      · have ev : a14 (ln i) = nI g' := by
          rw [m14 _ hli, hv]
          rfl
        rw [ev]
        exact ih i' g' (x + 1) _ _ _ _ (by omega) (by omega) n12 n14 (fd_hole_step hh hi' hv hrf hS) (fd_ext_step hext (Or.inr (fd_nos hv)))
    refine br_f (nI_ge (b := 24) (by omega) (by decide)) (br_f (nI_pos (by omega)) ⟨pk_in g 24 (by omega), ?_⟩)
    rw [ecl, e13]
    refine nm_e ⟨pk_in (ln i) 24 (by omega), ?_⟩
    rw [ecl2, fd_nb (k := ln i) (by omega), fd_nb (k := g) (by omega)]
    exact nm_e ⟨pk_in g 24 (by omega), nm_e ⟨pk_in (ln i) 24 (by omega), nm_e (nm_r (nI_1 x) key)⟩⟩
theorem fd_shift {post : St2 → Prop} {cp pr tn gn le pk : Int32} {a1 a2 a3 a4 a5 a6 a7 a8 a9 a10 a11 a12 a13 a14 a15 a16 a17 : Nat → Int32} {T G e r i g : Nat} {S : Nat → Nat → Prop} {rf tk gv : Nat → Option Nat} {ln : Nat → Nat}
    (hT : T ≤ 24) (hG : G ≤ 24) (he : e ≤ 23) (m12 : fd_ma G a12 tk) (m13 : fd_ma G a13 rf) (m14 : fd_ma T a14 gv) (hl : ln 0 = r) (hh : fd_hole T G S rf ln e tk gv i g)
    (H : ∀ b12 b14 tk' gv', fd_ma G b12 tk' → fd_ma T b14 gv' → fd_mat T G S tk' gv' → fd_ext gv gv' r → gv' r ≠ none → post (cp, pr, tn, gn, le, pk, a1, a2, a3, a4, a5, a6, a7, a8, a9, a10, a11, b12, a13, b14, a15, a16, a17)) : wpX_shift post (cp, pr, tn, gn, le, pk, a1, a2, a3, a4, a5, a6, a7, a8, a9, a10, a11, a12, a13, a14, a15, a16, a17) (nI g) :=
  Exists.intro (i + 1 + 1) (fd_shift_4 hT hG m13 hl H (i + 1) i g 0 tk gv a12 a14 (by omega) (by have := hh.1; omega) m12 m14 hh fd_ext_0)
theorem fd_suits {post : Int32 → Prop} {cp pr tn gn le pk : Int32} {a1 a2 a3 a4 a5 a6 a7 a8 a9 a10 a11 a12 a13 a14 a15 a16 a17 : Nat → Int32} {k g : Nat} (hk : k < 24) (hg : g < 24) (H0 : ¬ fd_S a8 a9 a10 a11 k g → post 0) (H1 : fd_S a8 a9 a10 a11 k g → post 1) : wpX_suits post (cp, pr, tn, gn, le, pk, a1, a2, a3, a4, a5, a6, a7, a8, a9, a10, a11, a12, a13, a14, a15, a16, a17) (nI k) (nI g) := by
  have e1 : (nI k).toNatClampNeg = k := nI_clamp (by omega)
  have e2 : (nI g).toNatClampNeg = g := nI_clamp (by omega)
  unfold wpX_suits
  dsimp only
  rw [e1, e2]
  exact ⟨pk_in g 24 hg, pk_in k 24 hk, br_c (fun z => H0 (fun t => t.1 z)) (fun z => ⟨pk_in g 24 hg, pk_in k 24 hk, br_c (fun y => H0 (fun t => t.2 y)) (fun y => H1 ⟨z, y⟩)⟩)⟩
theorem fd_look_2 {post : Int32 → St2 → Prop} {cp pr pk : Int32} {a1 a2 a3 a4 a5 a6 a7 a8 a9 a10 a11 a12 a14 a16 a17 : Nat → Int32} {T G r c k0 : Nat} {tk gv : Nat → Option Nat}
    (hT : T ≤ 23) (hG : G ≤ 24) (m12 : fd_ma G a12 tk) (hm : fd_mat T G (fd_S a8 a9 a10 a11) tk gv)
    (H1 : ∀ (e : Nat) (ln : Nat → Nat) (rf : Nat → Option Nat) (b13 b15 : Nat → Int32), fd_bfs T G (fd_S a8 a9 a10 a11) tk gv rf ln e r → c < e → (∀ i g, i < c + 1 → g < G → fd_S a8 a9 a10 a11 (ln i) g → rf g ≠ none) → fd_ma G b13 rf → (∀ j, j < e → b15 j = nI (ln j)) → post (-1) (cp, pr, nI T, nI G, nI e, pk, a1, a2, a3, a4, a5, a6, a7, a8, a9, a10, a11, a12, b13, a14, b15, a16, a17))
    (H2 : ∀ (g e : Nat) (ln : Nat → Nat) (rf : Nat → Option Nat) (b13 b15 : Nat → Int32), g < G → tk g = none → fd_bfs T G (fd_S a8 a9 a10 a11) tk gv rf ln e r → c < e → fd_S a8 a9 a10 a11 (ln c) g → fd_ma G b13 (fd_up rf g (some (ln c))) → post (nI g) (cp, pr, nI T, nI G, nI e, pk, a1, a2, a3, a4, a5, a6, a7, a8, a9, a10, a11, a12, b13, a14, b15, a16, a17)) :
    ∀ (d g e : Nat) (ln : Nat → Nat) (rf : Nat → Option Nat) (a13 a15 : Nat → Int32), g + d = G → fd_bfs T G (fd_S a8 a9 a10 a11) tk gv rf ln e r → c < e → ln c = k0 →
      (∀ i g', i < c → g' < G → fd_S a8 a9 a10 a11 (ln i) g' → rf g' ≠ none) → (∀ g', g' < g → fd_S a8 a9 a10 a11 k0 g' → rf g' ≠ none) → fd_ma G a13 rf → (∀ j, j < e → a15 j = nI (ln j)) →
      wX_look_2 post (nI k0) cp pr (nI T) (nI G) pk (d + 1) (nI g) (nI e) a1 a2 a3 a4 a5 a6 a7 a8 a9 a10 a11 a12 a13 a14 a15 a16 a17 := by
  intro d
  induction d with
  | zero =>
    intro g e ln rf a13 a15 hg hb hc hk hd1 hd2 m13 m15
    refine br_t (nI_le (by omega) (by omega)) (H1 e ln rf a13 a15 hb hc (fun i g' hi hg' hs => ?_) m13 m15)
    by_cases ei : i = c
    · rw [ei, hk] at hs
      exact hd2 g' (by omega) hs
    · exact hd1 i g' (by omega) hg' hs
  | succ d ih =>
    intro g e ln rf a13 a15 hg hb hc hk hd1 hd2 m13 m15
    have hgG : g < G := by omega
    have heT := fd_bfs_e hb
    have hk0 : k0 < T := by
      rw [← hk]
      exact hb.2.2.2.1 c hc
    have ecl : (nI g).toNatClampNeg = g := nI_clamp (by omega)
    refine br_f (nI_ge (by omega) (by omega)) ⟨pk_in g 24 (by omega), ?_⟩
    rw [ecl]
    cases hr : rf g with
    | some k =>
      have hb7 := (hb.2.2.2.2.2.2 g k hgG hr).1
      have e13 : a13 g = nI k := by
        rw [m13 g hgG, hr]
        rfl
      refine br_t (by rw [e13]; exact nI_pos' (by omega)) (nm_r (nI_1 g) (ih (g + 1) e ln rf a13 a15 (by omega) hb hc hk hd1 (fun g' hg' hs => ?_) m13 m15))
      by_cases eg : g' = g
      · rw [eg]
        exact fd_nos hr
      · exact hd2 g' (by omega) hs
    | none =>
      have e13 : a13 g = -1 := by
        rw [m13 g hgG, hr]
        rfl
      refine br_f (by rw [e13]; decide) (fd_suits (by omega) (by omega) (fun hs => ?_) (fun hs => ?_))
      · refine br_t rfl (nm_r (nI_1 g) (ih (g + 1) e ln rf a13 a15 (by omega) hb hc hk hd1 (fun g' hg' hs' => ?_) m13 m15))
        by_cases eg : g' = g
        · rw [eg] at hs'
          exact absurd hs' hs
        · exact hd2 g' (by omega) hs'
      · refine br_f (by decide) ⟨pk_in g 24 (by omega), ?_⟩
        rw [fd_nb (k := k0) (by omega)]
        have n13 : fd_ma G (upd a13 g (nI k0)) (fd_up rf g (some (ln c))) := fd_ma_up m13 (by rw [hk]; rfl)
        refine nm_e ⟨pk_in g 24 (by omega), ?_⟩
        cases ht : tk g with
        | some k =>
          have hkT := (hm.1 g k hgG ht).1
          have e12 : a12 g = nI k := by
            rw [m12 g hgG, ht]
            rfl
          rw [e12]
          refine br_t (nI_pos' (by omega)) (br_f (nI_ge (b := 24) (by omega) (by decide)) ⟨pk_in g 24 (by omega), pk_in e 24 (by omega), ?_⟩)
          rw [vp_nar_byte, fd_nb (k := k) (by omega), nI_clamp (n := e) (by omega)]
          refine nm_e (nm_r (nI_1 e) (nm_r (nI_1 g) (ih (g + 1) (e + 1) (fd_up ln e k) (fd_up rf g (some (ln c))) _ _ (by omega) (fd_bfs_add hm hb hgG hr ht hc (by rw [hk]; exact hs)) (by omega) (by rw [fd_un (show c ≠ e by omega)]; exact hk) (fun i g' hi hg' hs' => ?_) (fun g' hg' hs' => ?_) n13 (fun j hj => ?_))))
          · rw [fd_un (show i ≠ e by omega)] at hs'
            by_cases eg : g' = g
            · rw [eg, fd_us]
              exact Option.some_ne_none _
            · rw [fd_un eg]
              exact hd1 i g' hi hg' hs'
          · by_cases eg : g' = g
            · rw [eg, fd_us]
              exact Option.some_ne_none _
            · rw [fd_un eg]
              exact hd2 g' (by omega) hs'
          · by_cases ej : j = e
            · rw [ej, pk_us, fd_us]
            · rw [pk_un ej, fd_un ej]
              exact m15 j (by omega)
        | none =>
          have e12 : a12 g = -1 := by
            rw [m12 g hgG, ht]
            rfl
          exact br_f (by rw [e12]; decide) (H2 g e ln rf _ a15 hgG ht hb hc (by rw [hk]; exact hs) n13)
theorem fd_serve_40 {post : Int32 → St2 → Prop} {cp pr pk : Int32} {a1 a2 a3 a4 a5 a6 a7 a8 a9 a10 a11 a12 a14 a16 a17 : Nat → Int32} {T G r : Nat} {tk gv : Nat → Option Nat}
    (hT : T ≤ 22) (hG : G ≤ 24) (m12 : fd_ma G a12 tk) (m14 : fd_ma T a14 gv) (hm : fd_mat T G (fd_S a8 a9 a10 a11) tk gv)
    (H0 : ∀ le b13 b15, ¬ fd_PM T G (fd_S a8 a9 a10 a11) → post 0 (cp, pr, nI T, nI G, le, pk, a1, a2, a3, a4, a5, a6, a7, a8, a9, a10, a11, a12, b13, a14, b15, a16, a17))
    (H1 : ∀ le b12 b13 b14 b15 tk' gv', fd_ma G b12 tk' → fd_ma T b14 gv' → fd_mat T G (fd_S a8 a9 a10 a11) tk' gv' → fd_ext gv gv' r → gv' r ≠ none → post 1 (cp, pr, nI T, nI G, le, pk, a1, a2, a3, a4, a5, a6, a7, a8, a9, a10, a11, b12, b13, b14, b15, a16, a17)) :
    ∀ (d c e : Nat) (ln : Nat → Nat) (rf : Nat → Option Nat) (a13 a15 : Nat → Int32), c + d = 24 → c ≤ e → fd_bfs T G (fd_S a8 a9 a10 a11) tk gv rf ln e r →
      (∀ i g, i < c → g < G → fd_S a8 a9 a10 a11 (ln i) g → rf g ≠ none) → fd_ma G a13 rf → (∀ j, j < e → a15 j = nI (ln j)) →
      wX_serve_40 post (d + 1) (-1) (nI c) cp pr (nI T) (nI G) (nI e) pk a1 a2 a3 a4 a5 a6 a7 a8 a9 a10 a11 a12 a13 a14 a15 a16 a17 := by
  intro d
  induction d with
  | zero =>
    intro c e ln rf a13 a15 hcd hce hb
    have := fd_bfs_e hb
    exact absurd hce (by omega)
  | succ d ih =>
    intro c e ln rf a13 a15 hcd hce hb hd m13 m15
    have heT := fd_bfs_e hb
    by_cases hc : e ≤ c
    · exact br_t (nI_le hc (by omega)) (br_f (by decide) (H0 (nI e) a13 a15 (fd_fail hm hb (fun i g hi => hd i g (by omega)))))
    · refine br_f (nI_ge (by omega) (by omega)) (br_f (nI_ge (b := 24) (by omega) (by decide)) (br_f (by decide) ⟨pk_in c 24 (by omega), ?_⟩))
      rw [nI_clamp (n := c) (by omega), m15 c (by omega)]
      refine Exists.intro (G + 1) ?_
      refine fd_look_2 (k0 := ln c) (c := c) (r := r) (by omega) hG m12 hm ?_ ?_ G 0 e ln rf a13 a15 (by omega) hb (by omega) rfl hd (fun g' h => absurd h (by omega)) m13 m15
      · intro e' ln' rf' b13 b15 hb' hc' hd' m13' m15'
        exact nm_r (nI_1 c) (ih (c + 1) e' ln' rf' b13 b15 (by omega) (by omega) hb' hd' m13' m15')
      · intro g e' ln' rf' b13 b15 hg ht hb' hc' hS m13'
        have heT' := fd_bfs_e hb'
        have P : wX_serve_75 post (nI g) cp pr (nI T) (nI G) (nI e') pk a1 a2 a3 a4 a5 a6 a7 a8 a9 a10 a11 a12 b13 a14 b15 a16 a17 := by
          refine br_t (nI_pos' (by omega)) ?_
          refine fd_shift (T := T) (G := G) (S := fd_S a8 a9 a10 a11) (r := r) (e := e') (i := c) (by omega) hG (by omega) m12 m13' m14 hb'.2.1 (fd_hole_0 hm hb' hg ht hc' hS) ?_
          intro b12 b14 tk' gv' q1 q2 q3 q4 q5
          exact H1 (nI e') b12 b13 b14 b15 tk' gv' q1 q2 q3 q4 q5
        refine nm_r (nI_1 c) ?_
        exact br_c (fun _ => P) (fun _ => br_c (fun _ => P) (fun _ => br_t (nI_pos' (by omega)) P))
theorem fd_serve {post : Int32 → St2 → Prop} {cp pr le pk : Int32} {a1 a2 a3 a4 a5 a6 a7 a8 a9 a10 a11 a12 a13 a14 a15 a16 a17 : Nat → Int32} {T G r : Nat} {tk gv : Nat → Option Nat}
    (hT : T ≤ 22) (hG : G ≤ 24) (hr : r < T) (hgr : gv r = none) (m12 : fd_ma G a12 tk) (m14 : fd_ma T a14 gv) (hm : fd_mat T G (fd_S a8 a9 a10 a11) tk gv)
    (H0 : ∀ le b13 b15, ¬ fd_PM T G (fd_S a8 a9 a10 a11) → post 0 (cp, pr, nI T, nI G, le, pk, a1, a2, a3, a4, a5, a6, a7, a8, a9, a10, a11, a12, b13, a14, b15, a16, a17))
    (H1 : ∀ le b12 b13 b14 b15 tk' gv', fd_ma G b12 tk' → fd_ma T b14 gv' → fd_mat T G (fd_S a8 a9 a10 a11) tk' gv' → fd_ext gv gv' r → gv' r ≠ none → post 1 (cp, pr, nI T, nI G, le, pk, a1, a2, a3, a4, a5, a6, a7, a8, a9, a10, a11, b12, b13, b14, b15, a16, a17)) :
    wpX_serve post (cp, pr, nI T, nI G, le, pk, a1, a2, a3, a4, a5, a6, a7, a8, a9, a10, a11, a12, a13, a14, a15, a16, a17) (nI r) := by
  have main : ∀ (d g : Nat) (a13 : Nat → Int32), g + d = G → fd_ma g a13 (fun _ => none) → wX_serve_2 post (nI r) cp pr (nI T) (nI G) le pk (d + 1) (nI g) a1 a2 a3 a4 a5 a6 a7 a8 a9 a10 a11 a12 a13 a14 a15 a16 a17 := by
    intro d
    induction d with
    | zero =>
      intro g a13 hg m13
      refine br_t (nI_le (by omega) (by omega)) ?_
      rw [fd_nb (k := r) (by omega)]
      refine nm_e (Exists.intro (24 + 1) ?_)
      exact fd_serve_40 hT hG m12 m14 hm H0 H1 24 0 1 (fun _ => r) (fun _ => none) a13 _ (by omega) (by omega) (fd_bfs_0 hr hgr rfl (fun _ _ => rfl)) (fun i g h => absurd h (by omega)) (by rw [show G = g by omega]; exact m13) (fun j hj => by rw [show j = 0 by omega, pk_us])
    | succ d ih =>
      intro g a13 hg m13
      refine br_f (nI_ge (by omega) (by omega)) ⟨pk_in g 24 (by omega), ?_⟩
      rw [nI_clamp (n := g) (by omega)]
      refine nm_e (nm_r (nI_1 g) (ih (g + 1) _ (by omega) (fun j hj => ?_)))
      by_cases e : j = g
      · rw [e, pk_us]
        rfl
      · rw [pk_un e]
        exact m13 j (by omega)
  exact Exists.intro (G + 1) (main G 0 a13 (by omega) (fun j hj => absurd hj (by omega)))
theorem fd_unm_50 {post : Int32 → St2 → Prop} {cp pr pk : Int32} {a1 a2 a3 a4 a5 a6 a7 a8 a9 a10 a11 a16 a17 : Nat → Int32} {T G : Nat} (hT : T ≤ 22) (hG : G ≤ 24)
    (H : ∀ r le b12 b13 b14 b15, (r = 0 ↔ fd_PM T G (fd_S a8 a9 a10 a11)) → post r (cp, pr, nI T, nI G, le, pk, a1, a2, a3, a4, a5, a6, a7, a8, a9, a10, a11, b12, b13, b14, b15, a16, a17)) :
    ∀ (d k c : Nat) (le : Int32) (a12 a13 a14 a15 : Nat → Int32) (tk gv : Nat → Option Nat), k + d = T → c ≤ k → fd_ma G a12 tk → fd_ma T a14 gv → fd_mat T G (fd_S a8 a9 a10 a11) tk gv → (∀ j, k ≤ j → gv j = none) →
      (c = 0 → ∀ j, j < k → gv j ≠ none) → (0 < c → ¬ fd_PM T G (fd_S a8 a9 a10 a11)) → wX_unmatched_50 post (d + 1) (nI c) (nI k) cp pr (nI T) (nI G) le pk a1 a2 a3 a4 a5 a6 a7 a8 a9 a10 a11 a12 a13 a14 a15 a16 a17 := by
  intro d
  induction d with
  | zero =>
    intro k c le a12 a13 a14 a15 tk gv hk hc m12 m14 hm hgv h0 h1
    refine br_t (nI_le (by omega) (by omega)) (H (nI c) le a12 a13 a14 a15 ⟨fun z => ?_, fun hp => ?_⟩)
    · have z' : nI c = nI 0 := z
      have hc0 : c = 0 := (nI_eq (by omega) (by omega)).mp z'
      exact fd_PM_of hm (fun j hj => h0 hc0 j (by omega))
    · rcases Nat.eq_zero_or_pos c with z | z
      · rw [z]
        rfl
      · exact absurd hp (h1 z)
  | succ d ih =>
    intro k c le a12 a13 a14 a15 tk gv hk hc m12 m14 hm hgv h0 h1
    refine br_f (nI_ge (by omega) (by omega)) ?_
    refine fd_serve hT hG (show k < T by omega) (hgv k (Nat.le_refl k)) m12 m14 hm ?_ ?_
    · intro le' b13 b15 hn
      exact br_t rfl (nm_r (nI_1 c) (nm_r (nI_1 k) (ih (k + 1) (c + 1) le' a12 b13 a14 b15 tk gv (by omega) (by omega) m12 m14 hm (fun j hj => hgv j (by omega)) (fun z => absurd z (by omega)) (fun _ => hn))))
    · intro le' b12 b13 b14 b15 tk' gv' q1 q2 q3 q4 q5
      refine br_f (by decide) (nm_r (nI_1 k) (ih (k + 1) c le' b12 b13 b14 b15 tk' gv' (by omega) (by omega) q1 q2 q3 (fun j hj => q4.2 j (by omega) (hgv j (by omega))) (fun z j hj => ?_) h1))
      by_cases e : j = k
      · rw [e]
        exact q5
      · exact q4.1 j (h0 z j (by omega))
theorem fd_unmatched {post : Int32 → St2 → Prop} {cp pr le pk : Int32} {a1 a2 a3 a4 a5 a6 a7 a8 a9 a10 a11 a12 a13 a14 a15 a16 a17 : Nat → Int32} {T G : Nat} (hT : T ≤ 22) (hG : G ≤ 24)
    (H : ∀ r le b12 b13 b14 b15, (r = 0 ↔ fd_PM T G (fd_S a8 a9 a10 a11)) → post r (cp, pr, nI T, nI G, le, pk, a1, a2, a3, a4, a5, a6, a7, a8, a9, a10, a11, b12, b13, b14, b15, a16, a17)) :
    wpX_unmatched post (cp, pr, nI T, nI G, le, pk, a1, a2, a3, a4, a5, a6, a7, a8, a9, a10, a11, a12, a13, a14, a15, a16, a17) := by
  have w25 : ∀ (d k : Nat) (a12 a14 : Nat → Int32), k + d = T → fd_ma G a12 (fun _ => none) → fd_ma k a14 (fun _ => none) → wX_unmatched_25 post cp pr (nI T) (nI G) le pk (d + 1) (nI k) a1 a2 a3 a4 a5 a6 a7 a8 a9 a10 a11 a12 a13 a14 a15 a16 a17 := by
    intro d
    induction d with
    | zero =>
      intro k a12 a14 hk m12 m14
      refine br_t (nI_le (by omega) (by omega)) (Exists.intro (T + 1) ?_)
      exact fd_unm_50 hT hG H T 0 0 le a12 a13 a14 a15 (fun _ => none) (fun _ => none) (by omega) (by omega) m12 (by rw [show T = k by omega]; exact m14) ⟨fun g k _ h => absurd rfl (fd_nos h), fun k g _ h => absurd rfl (fd_nos h)⟩ (fun _ _ => rfl) (fun _ j hj => absurd hj (by omega)) (fun z => absurd z (by omega))
    | succ d ih =>
      intro k a12 a14 hk m12 m14
      refine br_f (nI_ge (by omega) (by omega)) ⟨pk_in k 24 (by omega), ?_⟩
      rw [nI_clamp (n := k) (by omega)]
      refine nm_e (nm_r (nI_1 k) (ih (k + 1) a12 _ (by omega) m12 (fun j hj => ?_)))
      by_cases e : j = k
      · rw [e, pk_us]
        rfl
      · rw [pk_un e]
        exact m14 j (by omega)
  have w2 : ∀ (d g : Nat) (a12 : Nat → Int32), g + d = G → fd_ma g a12 (fun _ => none) → wX_unmatched_2 post cp pr (nI T) (nI G) le pk (d + 1) (nI g) a1 a2 a3 a4 a5 a6 a7 a8 a9 a10 a11 a12 a13 a14 a15 a16 a17 := by
    intro d
    induction d with
    | zero =>
      intro g a12 hg m12
      exact br_t (nI_le (by omega) (by omega)) (Exists.intro (T + 1) (w25 T 0 a12 a14 (by omega) (by rw [show G = g by omega]; exact m12) (fun j hj => absurd hj (by omega))))
    | succ d ih =>
      intro g a12 hg m12
      refine br_f (nI_ge (by omega) (by omega)) ⟨pk_in g 24 (by omega), ?_⟩
      rw [nI_clamp (n := g) (by omega)]
      refine nm_e (nm_r (nI_1 g) (ih (g + 1) _ (by omega) (fun j hj => ?_)))
      by_cases e : j = g
      · rw [e, pk_us]
        rfl
      · rw [pk_un e]
        exact m12 j (by omega)
  exact Exists.intro (G + 1) (w2 G 0 a12 (by omega) (fun j hj => absurd hj (by omega)))
end
section
/-! the plain theory of a question: bookings in the order of their numbers, the first stock ahead of the returns -/
/-- bit i of p -/
def fd_B (p : Int32) (i : Nat) : Bool := decide (¬ ((p >>> (nI i &&& 31)) &&& 1) = 0)
theorem fd_B_t {p : Int32} {i : Nat} (h : ¬ ((p >>> (nI i &&& 31)) &&& 1) = 0) : fd_B p i = true := decide_eq_true h
theorem fd_B_f {p : Int32} {i : Nat} (h : ((p >>> (nI i &&& 31)) &&& 1) = 0) : fd_B p i = false := decide_eq_false (fun z => z h)
theorem fd_B_nt {p : Int32} {i : Nat} (h : fd_B p i = true) : ¬ ((p >>> (nI i &&& 31)) &&& 1) = 0 := of_decide_eq_true h
theorem fd_B_nf {p : Int32} {i : Nat} (h : fd_B p i = false) : ((p >>> (nI i &&& 31)) &&& 1) = 0 := by
  rcases Decidable.em (((p >>> (nI i &&& 31)) &&& 1) = 0) with z | z
  · exact z
  · rw [fd_B_t z] at h
    exact absurd h (by decide)
def fd_pos (B : Nat → Bool) : Nat → Nat
  | 0 => 0
  | i + 1 => fd_pos B i + (if B i = true then 1 else 0)
def fd_bk (B : Nat → Bool) : Nat → Nat → Nat
  | 0, _ => 0
  | c + 1, j => if B c = true ∧ j = fd_pos B c then c else fd_bk B c j
theorem fd_pos_t {B : Nat → Bool} {i : Nat} (h : B i = true) : fd_pos B (i + 1) = fd_pos B i + 1 := by
  show fd_pos B i + (if B i = true then 1 else 0) = fd_pos B i + 1
  rw [if_pos h]
theorem fd_pos_f {B : Nat → Bool} {i : Nat} (h : B i = false) : fd_pos B (i + 1) = fd_pos B i := by
  show fd_pos B i + (if B i = true then 1 else 0) = fd_pos B i
  rw [if_neg (by rw [h]; decide)]
  rfl
theorem fd_pos_s (B : Nat → Bool) (i : Nat) : fd_pos B i ≤ fd_pos B (i + 1) ∧ fd_pos B (i + 1) ≤ fd_pos B i + 1 := by
  cases h : B i with
  | true =>
    rw [fd_pos_t h]
    omega
  | false =>
    rw [fd_pos_f h]
    omega
theorem fd_pos_mono (B : Nat → Bool) (i : Nat) : ∀ d, fd_pos B i ≤ fd_pos B (i + d) := by
  intro d
  induction d with
  | zero => exact Nat.le_refl _
  | succ d ih =>
    have := (fd_pos_s B (i + d)).1
    exact Nat.le_trans ih this
theorem fd_pos_le (B : Nat → Bool) : ∀ i, fd_pos B i ≤ i := by
  intro i
  induction i with
  | zero => exact Nat.le_refl _
  | succ i ih =>
    have := (fd_pos_s B i).2
    omega
theorem fd_pos_lt {B : Nat → Bool} {i c : Nat} (h : B i = true) (hi : i < c) : fd_pos B i < fd_pos B c := by
  have t := fd_pos_mono B (i + 1) (c - (i + 1))
  rw [fd_pos_t h, show i + 1 + (c - (i + 1)) = c by omega] at t
  omega
theorem fd_bk_pos {B : Nat → Bool} : ∀ (c i : Nat), i < c → B i = true → fd_bk B c (fd_pos B i) = i := by
  intro c
  induction c with
  | zero =>
    intro i h
    exact absurd h (by omega)
  | succ c ih =>
    intro i h hb
    show (if B c = true ∧ fd_pos B i = fd_pos B c then c else fd_bk B c (fd_pos B i)) = i
    by_cases e : i = c
    · rw [e] at hb
      rw [e, if_pos ⟨hb, rfl⟩]
    · have t := fd_pos_lt hb (show i < c by omega)
      rw [if_neg (fun z => absurd z.2 (by omega))]
      exact ih i (by omega) hb
theorem fd_bk_in {B : Nat → Bool} : ∀ (c j : Nat), j < fd_pos B c → fd_bk B c j < c ∧ B (fd_bk B c j) = true ∧ fd_pos B (fd_bk B c j) = j := by
  intro c
  induction c with
  | zero =>
    intro j h
    exact absurd h (Nat.not_lt_zero j)
  | succ c ih =>
    intro j h
    show (if B c = true ∧ j = fd_pos B c then c else fd_bk B c j) < c + 1 ∧ B (if B c = true ∧ j = fd_pos B c then c else fd_bk B c j) = true ∧ fd_pos B (if B c = true ∧ j = fd_pos B c then c else fd_bk B c j) = j
    by_cases e : B c = true ∧ j = fd_pos B c
    · rw [if_pos e]
      exact ⟨by omega, e.1, e.2.symm⟩
    · rw [if_neg e]
      have hj : j < fd_pos B c := by
        cases hb : B c with
        | true =>
          rw [fd_pos_t hb] at h
          have : j ≠ fd_pos B c := fun z => e ⟨hb, z⟩
          omega
        | false =>
          rw [fd_pos_f hb] at h
          exact h
      obtain ⟨t1, t2, t3⟩ := ih j hj
      exact ⟨by omega, t2, t3⟩
/-- the set of the one station s, as the program stores it -/
def fd_one (s : Nat) : Int32 := ((1 : Int32) <<< (nI s &&& 31)).toInt8.toInt32
def fd_pre (st : Nat → Nat) : Nat → Nat
  | 0 => 0
  | s + 1 => fd_pre st s + st s
def fd_sg (st : Nat → Nat) : Nat → Nat → Int32
  | 0, _ => 0
  | s + 1, g => if fd_pre st s ≤ g then fd_one s else fd_sg st s g
theorem fd_pre_mono (st : Nat → Nat) (s : Nat) : ∀ d, fd_pre st s ≤ fd_pre st (s + d) := by
  intro d
  induction d with
  | zero => exact Nat.le_refl _
  | succ d ih =>
    have : fd_pre st (s + (d + 1)) = fd_pre st (s + d) + st (s + d) := rfl
    omega
theorem fd_sg_at {st : Nat → Nat} {s g : Nat} (h1 : fd_pre st s ≤ g) (h2 : g < fd_pre st (s + 1)) : ∀ n, s < n → fd_sg st n g = fd_one s := by
  intro n
  induction n with
  | zero =>
    intro h
    exact absurd h (by omega)
  | succ n ih =>
    intro h
    show (if fd_pre st n ≤ g then fd_one n else fd_sg st n g) = fd_one s
    by_cases e : s = n
    · rw [← e, if_pos h1]
    · have t := fd_pre_mono st (s + 1) (n - (s + 1))
      rw [show s + 1 + (n - (s + 1)) = n by omega] at t
      rw [if_neg (by omega)]
      exact ih (by omega)
def fd_set (x : Int32) : Prop := ∃ q, q < 16 ∧ x = nI q
theorem fd_set_one : ∀ s, s < 4 → fd_set (fd_one s) := by
  intro s hs
  have t : ∀ s, s < 4 → 2 ^ s < 16 ∧ fd_one s = nI (2 ^ s) := by decide +kernel
  exact ⟨2 ^ s, t s hs⟩
theorem fd_set_sg (st : Nat → Nat) (g : Nat) : ∀ n, n ≤ 4 → fd_set (fd_sg st n g) := by
  intro n
  induction n with
  | zero =>
    intro _
    exact ⟨0, by omega, rfl⟩
  | succ n ih =>
    intro h
    show fd_set (if fd_pre st n ≤ g then fd_one n else fd_sg st n g)
    by_cases e : fd_pre st n ≤ g
    · rw [if_pos e]
      exact fd_set_one n (by omega)
    · rw [if_neg e]
      exact ih (by omega)
theorem fd_set_by {x : Int32} (h : fd_set x) : x.toInt8.toInt32 = x := by
  obtain ⟨q, hq, e⟩ := h
  rw [e]
  exact fd_nb (by omega)
def fd_hit (p q s : Nat) : Bool := decide (fd_B (nI p) s = true ∧ ¬ (nI q &&& fd_one s) = 0)
theorem fd_tab1 : ∀ p, p < 16 → ∀ q, q < 16 → ¬ (nI q &&& nI p) = 0 → ∃ s, s < 4 ∧ fd_B (nI p) s = true ∧ ¬ (nI q &&& fd_one s) = 0 := by
  have t : ∀ p, p < 16 → ∀ q, q < 16 → ¬ (nI q &&& nI p) = 0 → fd_hit p q 0 = true ∨ fd_hit p q 1 = true ∨ fd_hit p q 2 = true ∨ fd_hit p q 3 = true := by decide +kernel
  intro p hp q hq h
  rcases t p hp q hq h with z | z | z | z
  · exact ⟨0, by omega, of_decide_eq_true z⟩
  · exact ⟨1, by omega, of_decide_eq_true z⟩
  · exact ⟨2, by omega, of_decide_eq_true z⟩
  · exact ⟨3, by omega, of_decide_eq_true z⟩
theorem fd_tab2 : ∀ q, q < 16 → ¬ nI q = 0 → ∃ s, s < 4 ∧ fd_B (nI q) s = true := by
  have t : ∀ q, q < 16 → ¬ nI q = 0 → fd_B (nI q) 0 = true ∨ fd_B (nI q) 1 = true ∨ fd_B (nI q) 2 = true ∨ fd_B (nI q) 3 = true := by decide +kernel
  intro q hq h
  rcases t q hq h with z | z | z | z
  · exact ⟨0, by omega, z⟩
  · exact ⟨1, by omega, z⟩
  · exact ⟨2, by omega, z⟩
  · exact ⟨3, by omega, z⟩
theorem fd_tab3 : ∀ p, p < 16 → ∀ s, s < 4 → fd_B (nI p) s = true → nI p &&& fd_one s = fd_one s := by decide +kernel
theorem fd_sub_and {x x' y : Int32} (h : x' &&& x = x) (h0 : y &&& x' = 0) : y &&& x = 0 := by
  rw [← h, ← Int32.and_assoc, h0]
  exact Int32.zero_and
theorem fd_sub_and' {x x' y : Int32} (h : x' &&& x = x) (h0 : x' &&& y = 0) : x &&& y = 0 := by
  rw [Int32.and_comm] at h0 ⊢
  exact fd_sub_and h h0
theorem fd_bit_sub {x : Int32} {s : Nat} (hx : fd_set x) (hs : s < 4) (hb : fd_B x s = true) : x &&& fd_one s = fd_one s := by
  obtain ⟨p, hp, e⟩ := hx
  rw [e] at hb ⊢
  exact fd_tab3 p hp s hs hb
/-- takers: the bookings, then the askers; givers: the first stock, then the returns -/
def fd_ts (c : Nat) (B : Nat → Bool) (f : Nat → Int32) (x : Int32) (j : Nat) : Int32 := if j < fd_pos B c then f (fd_bk B c j) else x
def fd_gs (c : Nat) (B : Nat → Bool) (st : Nat → Nat) (f : Nat → Int32) (g : Nat) : Int32 := if g < fd_pre st 4 then fd_sg st 4 g else f (fd_bk B c (g - fd_pre st 4))
def fd_gt (c : Nat) (B : Nat → Bool) (st : Nat → Nat) (f : Nat → Int32) (g : Nat) : Int32 := if g < fd_pre st 4 then 0 else f (fd_bk B c (g - fd_pre st 4))
/-- the question has a good plan -/
def fd_Q (c : Nat) (B : Nat → Bool) (st : Nat → Nat) (pT bT aP aB : Nat → Int32) (k : Nat) (xs xt : Int32) : Prop :=
  fd_PM (fd_pos B c + k) (fd_pre st 4 + fd_pos B c) (fd_S (fd_ts c B aP xs) (fd_ts c B pT xt) (fd_gs c B st aB) (fd_gt c B st bT))
theorem fd_Q_drop {c : Nat} {B : Nat → Bool} {st : Nat → Nat} {pT bT aP aB : Nat → Int32} {k k' : Nat} {xs xt : Int32} (hk : k' ≤ k) (h : fd_Q c B st pT bT aP aB k xs xt) : fd_Q c B st pT bT aP aB k' xs xt :=
  fd_PM_mono (by omega) (Nat.le_refl _) (fun _ _ _ _ z => z) h
theorem fd_Q_0 {c : Nat} {B : Nat → Bool} {st : Nat → Nat} {pT bT aP aB : Nat → Int32} {xs xt xs' xt' : Int32} (h : fd_Q c B st pT bT aP aB 0 xs xt) : fd_Q c B st pT bT aP aB 0 xs' xt' := by
  refine fd_PM_mono (Nat.le_refl _) (Nat.le_refl _) (fun j g hj _ z => ?_) h
  have hj' : j < fd_pos B c := hj
  have e1 : ∀ f x x', fd_ts c B f x j = fd_ts c B f x' j := by
    intro f x x'
    show (if j < fd_pos B c then f (fd_bk B c j) else x) = (if j < fd_pos B c then f (fd_bk B c j) else x')
    rw [if_pos hj', if_pos hj']
  have z' : ¬ fd_ts c B pT xt j < fd_gt c B st bT g ∧ ¬ (fd_gs c B st aB g &&& fd_ts c B aP xs j) = 0 := z
  rw [e1 pT xt xt', e1 aP xs xs'] at z'
  exact z'
theorem fd_Q_time {c : Nat} {B : Nat → Bool} {st : Nat → Nat} {pT bT aP aB : Nat → Int32} {k : Nat} {xs xt xt' : Int32} (ht : xt ≤ xt') (h : fd_Q c B st pT bT aP aB k xs xt) : fd_Q c B st pT bT aP aB k xs xt' := by
  refine fd_PM_mono (Nat.le_refl _) (Nat.le_refl _) (fun j g _ _ z => ⟨fun w => z.1 ?_, z.2⟩) h
  by_cases hj : j < fd_pos B c
  · have e1 : ∀ x, fd_ts c B pT x j = pT (fd_bk B c j) := fun x => if_pos hj
    rw [e1] at w ⊢
    exact w
  · have e1 : ∀ x, fd_ts c B pT x j = x := fun x => if_neg hj
    rw [e1] at w ⊢
    exact Int32.lt_of_le_of_lt ht w
theorem fd_Q_wide {c : Nat} {B : Nat → Bool} {st : Nat → Nat} {pT bT aP aB aP' aB' : Nat → Int32} {k : Nat} {xs xt : Int32}
    (hP : ∀ i, i < c → B i = true → aP' i &&& aP i = aP i) (hB : ∀ i, i < c → B i = true → aB' i &&& aB i = aB i) (h : fd_Q c B st pT bT aP aB k xs xt) : fd_Q c B st pT bT aP' aB' k xs xt := by
  refine fd_PM_mono (Nat.le_refl _) (Nat.le_refl _) (fun j g _ hg z => ⟨z.1, fun w => z.2 ?_⟩) h
  have a1 : fd_gs c B st aB' g &&& fd_ts c B aP xs j = 0 := by
    by_cases hj : j < fd_pos B c
    · have e1 : ∀ f, fd_ts c B f xs j = f (fd_bk B c j) := fun f => if_pos hj
      rw [e1] at w ⊢
      obtain ⟨t1, t2, _⟩ := fd_bk_in c j hj
      exact fd_sub_and (hP _ t1 t2) w
    · have e1 : ∀ f, fd_ts c B f xs j = xs := fun f => if_neg hj
      rw [e1] at w ⊢
      exact w
  by_cases hg' : g < fd_pre st 4
  · have e1 : ∀ f, fd_gs c B st f g = fd_sg st 4 g := fun f => if_pos hg'
    rw [e1] at a1 ⊢
    exact a1
  · have e1 : ∀ f, fd_gs c B st f g = f (fd_bk B c (g - fd_pre st 4)) := fun f => if_neg hg'
    rw [e1] at a1 ⊢
    obtain ⟨t1, t2, _⟩ := fd_bk_in (B := B) c (g - fd_pre st 4) (by omega)
    exact fd_sub_and' (hB _ t1 t2) a1
theorem fd_Q_congr {c : Nat} {B : Nat → Bool} {st : Nat → Nat} {pT bT aP aB aP' aB' : Nat → Int32} {k : Nat} {xs xt : Int32}
    (hP : ∀ i, i < c → B i = true → aP' i = aP i) (hB : ∀ i, i < c → B i = true → aB' i = aB i) (h : fd_Q c B st pT bT aP aB k xs xt) : fd_Q c B st pT bT aP' aB' k xs xt :=
  fd_Q_wide (fun i h1 h2 => by rw [hP i h1 h2]; exact Int32.and_self) (fun i h1 h2 => by rw [hB i h1 h2]; exact Int32.and_self) h
theorem fd_Q_pick {c : Nat} {B : Nat → Bool} {st : Nat → Nat} {pT bT aP aB : Nat → Int32} {xs xt : Int32} {i0 : Nat} (hP : ∀ i, i < c → fd_set (aP i)) (hB : ∀ i, i < c → fd_set (aB i)) (hi : i0 < c) (hb : B i0 = true)
    (h : fd_Q c B st pT bT aP aB 0 xs xt) : ∃ s, s < 4 ∧ fd_B (aP i0) s = true ∧ fd_Q c B st pT bT (upd aP i0 (fd_one s)) aB 0 xs xt := by
  obtain ⟨m, h1, h2⟩ := h
  have hj0 := fd_pos_lt hb hi
  have hbk := fd_bk_pos c i0 hi hb
  obtain ⟨m1, m2, m3⟩ := h1 (fd_pos B i0) hj0
  have et : ∀ f j, j < fd_pos B c → fd_ts c B f xs j = f (fd_bk B c j) := fun f j hj => if_pos hj
  rw [et _ _ hj0, hbk] at m3
  obtain ⟨p, hp, ep⟩ := hP i0 hi
  have hgset : ∀ g, g < fd_pre st 4 + fd_pos B c → fd_set (fd_gs c B st aB g) := by
    intro g hg
    by_cases hg' : g < fd_pre st 4
    · rw [show fd_gs c B st aB g = fd_sg st 4 g from if_pos hg']
      exact fd_set_sg st g 4 (Nat.le_refl 4)
    · rw [show fd_gs c B st aB g = aB (fd_bk B c (g - fd_pre st 4)) from if_neg hg']
      exact hB _ (fd_bk_in (B := B) c (g - fd_pre st 4) (by omega)).1
  obtain ⟨q, hq, eq⟩ := hgset _ m1
  rw [ep, eq] at m3
  obtain ⟨s, hs, t1, t2⟩ := fd_tab1 p hp q hq m3
  refine ⟨s, hs, by rw [ep]; exact t1, m, fun j hj => ?_, h2⟩
  have hj' : j < fd_pos B c := hj
  obtain ⟨k1, k2, k3⟩ := h1 j hj
  refine ⟨k1, k2, ?_⟩
  rw [et _ j hj'] at k3 ⊢
  by_cases ej : j = fd_pos B i0
  · rw [ej, hbk, pk_us, eq]
    exact t2
  · have hne : fd_bk B c j ≠ i0 := fun z => by
      have := (fd_bk_in c j hj').2.2
      rw [z] at this
      exact ej this.symm
    rw [pk_un hne]
    exact k3
theorem fd_Q_back {c : Nat} {B : Nat → Bool} {st : Nat → Nat} {pT bT aP aB : Nat → Int32} {xs xt : Int32} {i0 : Nat} (hP : ∀ i, i < c → fd_set (aP i)) (hB : ∀ i, i < c → fd_set (aB i)) (hi : i0 < c) (hb : B i0 = true) (hz : ¬ aB i0 = 0)
    (h : fd_Q c B st pT bT aP aB 0 xs xt) : ∃ s, s < 4 ∧ fd_B (aB i0) s = true ∧ fd_Q c B st pT bT aP (upd aB i0 (fd_one s)) 0 xs xt := by
  obtain ⟨m, h1, h2⟩ := h
  have hj0 := fd_pos_lt hb hi
  have hbk := fd_bk_pos c i0 hi hb
  have et : ∀ f j, j < fd_pos B c → fd_ts c B f xs j = f (fd_bk B c j) := fun f j hj => if_pos hj
  obtain ⟨q, hq, eq⟩ := hB i0 hi
  have eg0 : ∀ f, fd_gs c B st f (fd_pre st 4 + fd_pos B i0) = f i0 := by
    intro f
    rw [show fd_gs c B st f (fd_pre st 4 + fd_pos B i0) = f (fd_bk B c (fd_pre st 4 + fd_pos B i0 - fd_pre st 4)) from if_neg (by omega), show fd_pre st 4 + fd_pos B i0 - fd_pre st 4 = fd_pos B i0 by omega, hbk]
  have eg1 : ∀ x g, g < fd_pre st 4 + fd_pos B c → g ≠ fd_pre st 4 + fd_pos B i0 → fd_gs c B st (upd aB i0 x) g = fd_gs c B st aB g := by
    intro x g hg hne
    by_cases hg' : g < fd_pre st 4
    · rw [show fd_gs c B st (upd aB i0 x) g = fd_sg st 4 g from if_pos hg', show fd_gs c B st aB g = fd_sg st 4 g from if_pos hg']
    · have hne2 : fd_bk B c (g - fd_pre st 4) ≠ i0 := fun z => by
        have := (fd_bk_in (B := B) c (g - fd_pre st 4) (by omega)).2.2
        rw [z] at this
        omega
      rw [show fd_gs c B st (upd aB i0 x) g = upd aB i0 x (fd_bk B c (g - fd_pre st 4)) from if_neg hg', show fd_gs c B st aB g = aB (fd_bk B c (g - fd_pre st 4)) from if_neg hg', pk_un hne2]
  by_cases ex : ∃ j, j < fd_pos B c ∧ m j = fd_pre st 4 + fd_pos B i0
  · obtain ⟨j0, hjj, ejm⟩ := ex
    obtain ⟨m1, m2, m3⟩ := h1 j0 hjj
    rw [ejm, eg0, et _ _ hjj, eq] at m3
    obtain ⟨p, hp, ep⟩ := hP _ (fd_bk_in c j0 hjj).1
    rw [ep, Int32.and_comm] at m3
    obtain ⟨s, hs, t1, t2⟩ := fd_tab1 q hq p hp m3
    refine ⟨s, hs, by rw [eq]; exact t1, m, fun j hj => ?_, h2⟩
    have hj' : j < fd_pos B c := hj
    obtain ⟨k1, k2, k3⟩ := h1 j hj
    refine ⟨k1, k2, ?_⟩
    by_cases ej : j = j0
    · rw [ej, ejm, eg0, et _ _ hjj, pk_us, ep, Int32.and_comm]
      exact t2
    · have hne : m j ≠ fd_pre st 4 + fd_pos B i0 := fun z => ej (h2 j j0 hj hjj (z.trans ejm.symm))
      rw [eg1 _ _ k1 hne]
      exact k3
  · rw [eq] at hz
    obtain ⟨s, hs, t1⟩ := fd_tab2 q hq hz
    refine ⟨s, hs, by rw [eq]; exact t1, m, fun j hj => ?_, h2⟩
    obtain ⟨k1, k2, k3⟩ := h1 j hj
    refine ⟨k1, k2, ?_⟩
    rw [eg1 _ _ k1 (fun z => ex ⟨j, hj, z⟩)]
    exact k3
/-- what the program has put together is the question -/
theorem fd_Q_of {c : Nat} {B : Nat → Bool} {st : Nat → Nat} {pT bT aP aB b8 b9 b10 b11 : Nat → Int32} {k : Nat} {xs xt : Int32}
    (h8 : ∀ j, j < fd_pos B c + k → b8 j = fd_ts c B aP xs j) (h9 : ∀ j, j < fd_pos B c + k → b9 j = fd_ts c B pT xt j)
    (h10 : ∀ g, g < fd_pre st 4 + fd_pos B c → b10 g = fd_gs c B st aB g) (h11 : ∀ g, g < fd_pre st 4 + fd_pos B c → b11 g = fd_gt c B st bT g) :
    fd_PM (fd_pos B c + k) (fd_pre st 4 + fd_pos B c) (fd_S b8 b9 b10 b11) ↔ fd_Q c B st pT bT aP aB k xs xt := by
  have key : ∀ j g, j < fd_pos B c + k → g < fd_pre st 4 + fd_pos B c → (fd_S b8 b9 b10 b11 j g ↔ fd_S (fd_ts c B aP xs) (fd_ts c B pT xt) (fd_gs c B st aB) (fd_gt c B st bT) j g) := by
    intro j g hj hg
    unfold fd_S
    rw [h8 j hj, h9 j hj, h10 g hg, h11 g hg]
  exact ⟨fd_PM_mono (Nat.le_refl _) (Nat.le_refl _) (fun j g hj hg => (key j g hj hg).mp), fd_PM_mono (Nat.le_refl _) (Nat.le_refl _) (fun j g hj hg => (key j g hj hg).mpr)⟩
end
section
/-! the walks of addGiver, addTaker, gather, askPlainly, missing, feasible -/
theorem fd_addGiver {post : St2 → Prop} {cp pr tn le pk : Int32} {a1 a2 a3 a4 a5 a6 a7 a8 a9 a10 a11 a12 a13 a14 a15 a16 a17 : Nat → Int32} {g : Nat} {x y x' y' : Int32} (hg : g < 24) (hx : x.toInt8.toInt32 = x') (hy : y.toInt8.toInt32 = y') (H : post (cp, pr, tn, nI (g + 1), le, pk, a1, a2, a3, a4, a5, a6, a7, a8, a9, upd a10 g x', upd a11 g y', a12, a13, a14, a15, a16, a17)) : wpX_addGiver post (cp, pr, tn, nI g, le, pk, a1, a2, a3, a4, a5, a6, a7, a8, a9, a10, a11, a12, a13, a14, a15, a16, a17) x y := by
  have e1 : (nI g).toNatClampNeg = g := nI_clamp (by omega)
  unfold wpX_addGiver
  dsimp only
  rw [e1, hx, hy]
  exact br_f (nI_ge (b := 24) (by omega) (by decide)) ⟨pk_in g 24 hg, nm_e ⟨pk_in g 24 hg, nm_e (nm_r (nI_1 g) H)⟩⟩
theorem fd_addTaker {post : St2 → Prop} {cp pr gn le pk : Int32} {a1 a2 a3 a4 a5 a6 a7 a8 a9 a10 a11 a12 a13 a14 a15 a16 a17 : Nat → Int32} {g : Nat} {x y x' y' : Int32} (hg : g < 24) (hx : x.toInt8.toInt32 = x') (hy : y.toInt8.toInt32 = y') (H : post (cp, pr, nI (g + 1), gn, le, pk, a1, a2, a3, a4, a5, a6, a7, upd a8 g x', upd a9 g y', a10, a11, a12, a13, a14, a15, a16, a17)) : wpX_addTaker post (cp, pr, nI g, gn, le, pk, a1, a2, a3, a4, a5, a6, a7, a8, a9, a10, a11, a12, a13, a14, a15, a16, a17) x y := by
  have e1 : (nI g).toNatClampNeg = g := nI_clamp (by omega)
  unfold wpX_addTaker
  dsimp only
  rw [e1, hx, hy]
  exact br_f (nI_ge (b := 24) (by omega) (by decide)) ⟨pk_in g 24 hg, nm_e ⟨pk_in g 24 hg, nm_e (nm_r (nI_1 g) H)⟩⟩
/-- the first n givers are those of the first stock -/
def fd_g0 (st : Nat → Nat) (n : Nat) (b10 b11 : Nat → Int32) : Prop := ∀ g, g < n → b10 g = fd_sg st 4 g ∧ b11 g = 0
/-- the first n bookings' takers and givers stand -/
def fd_g1 (c : Nat) (B : Nat → Bool) (st : Nat → Nat) (pT bT aP aB : Nat → Int32) (n : Nat) (b8 b9 b10 b11 : Nat → Int32) : Prop :=
  ∀ j, j < n → b8 j = aP (fd_bk B c j) ∧ b9 j = pT (fd_bk B c j) ∧ b10 (fd_pre st 4 + j) = aB (fd_bk B c j) ∧ b11 (fd_pre st 4 + j) = bT (fd_bk B c j)
theorem fd_pre4 {st : Nat → Nat} (h : ∀ s, s < 4 → st s ≤ 3) : fd_pre st 4 ≤ 12 := by
  have h0 := h 0 (by omega)
  have h1 := h 1 (by omega)
  have h2 := h 2 (by omega)
  have h3 := h 3 (by omega)
  have : fd_pre st 4 = 0 + st 0 + st 1 + st 2 + st 3 := rfl
  omega
theorem fd_gather_51 {post : St2 → Prop} {pr le pk : Int32} {a1 a2 a3 a4 a5 a6 a7 a12 a13 a14 a15 a16 a17 : Nat → Int32} {c : Nat} {st : Nat → Nat} (hc : c ≤ 5) (hst : ∀ s, s < 4 → st s ≤ 3)
    (s2 : ∀ i, i < c → fd_set (a2 i)) (s4 : ∀ i, i < c → fd_set (a4 i)) (s6 : ∀ i, i < c → fd_set (a6 i)) (s7 : ∀ i, i < c → fd_set (a7 i))
    (H : ∀ b8 b9 b10 b11, fd_g0 st (fd_pre st 4) b10 b11 → fd_g1 c (fd_B pr) st a2 a4 a6 a7 (fd_pos (fd_B pr) c) b8 b9 b10 b11 → post (nI c, pr, nI (fd_pos (fd_B pr) c), nI (fd_pre st 4 + fd_pos (fd_B pr) c), le, pk, a1, a2, a3, a4, a5, a6, a7, b8, b9, b10, b11, a12, a13, a14, a15, a16, a17)) :
    ∀ (d i : Nat) (a8 a9 a10 a11 : Nat → Int32), i + d = c → fd_g0 st (fd_pre st 4) a10 a11 → fd_g1 c (fd_B pr) st a2 a4 a6 a7 (fd_pos (fd_B pr) i) a8 a9 a10 a11 →
      wX_gather_51 post (d + 1) (nI i) (nI c) pr (nI (fd_pos (fd_B pr) i)) (nI (fd_pre st 4 + fd_pos (fd_B pr) i)) le pk a1 a2 a3 a4 a5 a6 a7 a8 a9 a10 a11 a12 a13 a14 a15 a16 a17 := by
  have hpre := fd_pre4 hst
  intro d
  induction d with
  | zero =>
    intro i a8 a9 a10 a11 hi q0 q1
    have e : i = c := by omega
    rw [e] at q1 ⊢
    exact br_t (nI_le (Nat.le_refl c) (by omega)) (H a8 a9 a10 a11 q0 q1)
  | succ d ih =>
    intro i a8 a9 a10 a11 hi q0 q1
    have hic : i < c := by omega
    have hpi := fd_pos_le (fd_B pr) i
    have ecl : (nI i).toNatClampNeg = i := nI_clamp (by omega)
    refine br_f (nI_ge hic (by omega)) (br_c (fun z => ?_) (fun z => ?_))
    · have hf := fd_B_f z
      refine nm_r (nI_1 i) ?_
      have t := ih (i + 1) a8 a9 a10 a11 (by omega) q0 (by rw [fd_pos_f hf]; exact q1)
      rw [fd_pos_f hf] at t
      exact t
    · have ht := fd_B_t z
      rw [ecl]
      refine ⟨pk_in i 8 (by omega), pk_in i 8 (by omega), ?_⟩
      refine fd_addGiver (by omega) (fd_set_by (s7 i hic)) (fd_set_by (s4 i hic)) ?_
      refine ⟨pk_in i 8 (by omega), pk_in i 8 (by omega), ?_⟩
      refine fd_addTaker (by omega) (fd_set_by (s6 i hic)) (fd_set_by (s2 i hic)) ?_
      refine nm_r (nI_1 i) ?_
      have hbk := fd_bk_pos c i hic ht
      have t := ih (i + 1) (upd a8 (fd_pos (fd_B pr) i) (a6 i)) (upd a9 (fd_pos (fd_B pr) i) (a2 i)) (upd a10 (fd_pre st 4 + fd_pos (fd_B pr) i) (a7 i)) (upd a11 (fd_pre st 4 + fd_pos (fd_B pr) i) (a4 i)) (by omega)
        (fun g hg => by rw [pk_un (by omega), pk_un (by omega)]; exact q0 g hg)
        (fun j hj => by
          rw [fd_pos_t ht] at hj
          by_cases ej : j = fd_pos (fd_B pr) i
          · rw [ej, pk_us, pk_us, pk_us, pk_us, hbk]
            exact ⟨rfl, rfl, rfl, rfl⟩
          · rw [pk_un ej, pk_un ej, pk_un (by omega), pk_un (by omega)]
            exact q1 j (by omega))
      rw [fd_pos_t ht, ← Nat.add_assoc] at t
      exact t
theorem fd_gather_19 {post : St2 → Prop} {cp pr tn le pk : Int32} {a1 a2 a3 a4 a5 a6 a7 a8 a9 a12 a13 a14 a15 a16 a17 : Nat → Int32} {st : Nat → Nat} {s : Nat} {J : Int32 → Int32 → Int32 → Int32 → Int32 → Int32 → Int32 → (Nat → Int32) → (Nat → Int32) → (Nat → Int32) → (Nat → Int32) → (Nat → Int32) → (Nat → Int32) → (Nat → Int32) → (Nat → Int32) → (Nat → Int32) → (Nat → Int32) → (Nat → Int32) → (Nat → Int32) → (Nat → Int32) → (Nat → Int32) → (Nat → Int32) → (Nat → Int32) → (Nat → Int32) → Prop}
    (hs : s < 4) (hst : ∀ s, s < 4 → st s ≤ 3) (h5 : a5 s = nI (st s))
    (H : ∀ b10 b11, fd_g0 st (fd_pre st (s + 1)) b10 b11 → J (nI (s + 1)) cp pr tn (nI (fd_pre st (s + 1))) le pk a1 a2 a3 a4 a5 a6 a7 a8 a9 b10 b11 a12 a13 a14 a15 a16 a17) :
    ∀ (d k : Nat) (a10 a11 : Nat → Int32), k + d = st s → fd_g0 st (fd_pre st s + k) a10 a11 → wX_gather_19 post J (nI s) (d + 1) (nI k) cp pr tn (nI (fd_pre st s + k)) le pk a1 a2 a3 a4 a5 a6 a7 a8 a9 a10 a11 a12 a13 a14 a15 a16 a17 := by
  have hpre := fd_pre4 hst
  have hss := hst s hs
  have hp1 : fd_pre st (s + 1) = fd_pre st s + st s := rfl
  have hp2 := fd_pre_mono st (s + 1) (4 - (s + 1))
  rw [show s + 1 + (4 - (s + 1)) = 4 by omega] at hp2
  have ecl : (nI s).toNatClampNeg = s := nI_clamp (by omega)
  intro d
  induction d with
  | zero =>
    intro k a10 a11 hk q0
    have e : fd_pre st s + k = fd_pre st (s + 1) := by omega
    rw [e] at q0 ⊢
    refine And.intro (pk_in s 4 hs) ?_
    rw [ecl, h5]
    exact br_t (nI_le (by omega) (by omega)) (nm_r (nI_1 s) (H a10 a11 q0))
  | succ d ih =>
    intro k a10 a11 hk q0
    refine And.intro (pk_in s 4 hs) ?_
    rw [ecl, h5]
    refine br_f (nI_ge (by omega) (by omega)) ?_
    refine fd_addGiver (x' := fd_one s) (y' := 0) (by omega) rfl (by decide) ?_
    refine nm_r (nI_1 k) ?_
    refine ih (k + 1) _ _ (by omega) (fun g hg => ?_)
    by_cases eg : g = fd_pre st s + k
    · rw [eg, pk_us, pk_us, fd_sg_at (s := s) (by omega) (by omega) 4 hs]
      exact ⟨rfl, rfl⟩
    · rw [pk_un eg, pk_un eg]
      exact q0 g (by omega)
theorem fd_gather {post : St2 → Prop} {pr tn gn le pk : Int32} {a1 a2 a3 a4 a5 a6 a7 a8 a9 a10 a11 a12 a13 a14 a15 a16 a17 : Nat → Int32} {c : Nat} {st : Nat → Nat} (hc : c ≤ 5) (hst : ∀ s, s < 4 → st s ≤ 3) (h5 : ∀ s, s < 4 → a5 s = nI (st s))
    (s2 : ∀ i, i < c → fd_set (a2 i)) (s4 : ∀ i, i < c → fd_set (a4 i)) (s6 : ∀ i, i < c → fd_set (a6 i)) (s7 : ∀ i, i < c → fd_set (a7 i))
    (H : ∀ b8 b9 b10 b11, fd_g0 st (fd_pre st 4) b10 b11 → fd_g1 c (fd_B pr) st a2 a4 a6 a7 (fd_pos (fd_B pr) c) b8 b9 b10 b11 → post (nI c, pr, nI (fd_pos (fd_B pr) c), nI (fd_pre st 4 + fd_pos (fd_B pr) c), le, pk, a1, a2, a3, a4, a5, a6, a7, b8, b9, b10, b11, a12, a13, a14, a15, a16, a17)) :
    wpX_gather post (nI c, pr, tn, gn, le, pk, a1, a2, a3, a4, a5, a6, a7, a8, a9, a10, a11, a12, a13, a14, a15, a16, a17) := by
  have main : ∀ (d s : Nat) (a10 a11 : Nat → Int32), s + d = 4 → fd_g0 st (fd_pre st s) a10 a11 → wX_gather_12 post (d + 1) (nI s) (nI c) pr (nI 0) (nI (fd_pre st s)) le pk a1 a2 a3 a4 a5 a6 a7 a8 a9 a10 a11 a12 a13 a14 a15 a16 a17 := by
    intro d
    induction d with
    | zero =>
      intro s a10 a11 hs q0
      have e : s = 4 := by omega
      rw [e] at q0 ⊢
      refine br_t (nI_le (a := 4) (Nat.le_refl 4) (by decide)) (Exists.intro (c + 1) ?_)
      exact fd_gather_51 hc hst s2 s4 s6 s7 H c 0 a8 a9 a10 a11 (by omega) q0 (fun j hj => absurd hj (Nat.not_lt_zero j))
    | succ d ih =>
      intro s a10 a11 hs q0
      have hs4 : s < 4 := by omega
      refine br_f (nI_ge (b := 4) hs4 (by decide)) (Exists.intro (st s + 1) ?_)
      exact fd_gather_19 hs4 hst (h5 s hs4) (fun b10 b11 q => ih (s + 1) b10 b11 (by omega) q) (st s) 0 a10 a11 (by omega) q0
  exact Exists.intro (4 + 1) (main 4 0 a10 a11 (by omega) (fun g hg => absurd hg (Nat.not_lt_zero g)))
theorem fd_GQ {c : Nat} {B : Nat → Bool} {st : Nat → Nat} {pT bT aP aB b8 b9 b10 b11 : Nat → Int32} {k : Nat} {xs xt : Int32}
    (q0 : fd_g0 st (fd_pre st 4) b10 b11) (q1 : fd_g1 c B st pT bT aP aB (fd_pos B c) b8 b9 b10 b11) (q2 : ∀ j, fd_pos B c ≤ j → j < fd_pos B c + k → b8 j = xs ∧ b9 j = xt) :
    fd_PM (fd_pos B c + k) (fd_pre st 4 + fd_pos B c) (fd_S b8 b9 b10 b11) ↔ fd_Q c B st pT bT aP aB k xs xt := by
  refine fd_Q_of (fun j hj => ?_) (fun j hj => ?_) (fun g hg => ?_) (fun g hg => ?_)
  · by_cases h : j < fd_pos B c
    · rw [show fd_ts c B aP xs j = aP (fd_bk B c j) from if_pos h]
      exact (q1 j h).1
    · rw [show fd_ts c B aP xs j = xs from if_neg h]
      exact (q2 j (by omega) hj).1
  · by_cases h : j < fd_pos B c
    · rw [show fd_ts c B pT xt j = pT (fd_bk B c j) from if_pos h]
      exact (q1 j h).2.1
    · rw [show fd_ts c B pT xt j = xt from if_neg h]
      exact (q2 j (by omega) hj).2
  · by_cases h : g < fd_pre st 4
    · rw [show fd_gs c B st aB g = fd_sg st 4 g from if_pos h]
      exact (q0 g h).1
    · rw [show fd_gs c B st aB g = aB (fd_bk B c (g - fd_pre st 4)) from if_neg h]
      have t := (q1 (g - fd_pre st 4) (by omega)).2.2.1
      rw [show fd_pre st 4 + (g - fd_pre st 4) = g by omega] at t
      exact t
  · by_cases h : g < fd_pre st 4
    · rw [show fd_gt c B st bT g = 0 from if_pos h]
      exact (q0 g h).2
    · rw [show fd_gt c B st bT g = bT (fd_bk B c (g - fd_pre st 4)) from if_neg h]
      have t := (q1 (g - fd_pre st 4) (by omega)).2.2.2
      rw [show fd_pre st 4 + (g - fd_pre st 4) = g by omega] at t
      exact t
theorem fd_missing {post : Int32 → St2 → Prop} {pr tn gn le pk : Int32} {a1 a2 a3 a4 a5 a6 a7 a8 a9 a10 a11 a12 a13 a14 a15 a16 a17 : Nat → Int32} {c : Nat} {st : Nat → Nat} (hc : c ≤ 5) (hst : ∀ s, s < 4 → st s ≤ 3) (h5 : ∀ s, s < 4 → a5 s = nI (st s))
    (s2 : ∀ i, i < c → fd_set (a2 i)) (s4 : ∀ i, i < c → fd_set (a4 i)) (s6 : ∀ i, i < c → fd_set (a6 i)) (s7 : ∀ i, i < c → fd_set (a7 i))
    (H : ∀ r tn gn le a8 a9 a10 a11 a12 a13 a14 a15, (r = 0 ↔ fd_Q c (fd_B pr) st a2 a4 a6 a7 0 0 0) → post r (nI c, pr, tn, gn, le, pk, a1, a2, a3, a4, a5, a6, a7, a8, a9, a10, a11, a12, a13, a14, a15, a16, a17)) :
    wpX_missing post (nI c, pr, tn, gn, le, pk, a1, a2, a3, a4, a5, a6, a7, a8, a9, a10, a11, a12, a13, a14, a15, a16, a17) := by
  have hpre := fd_pre4 hst
  have hpos := fd_pos_le (fd_B pr) c
  unfold wpX_missing
  dsimp only
  refine fd_gather hc hst h5 s2 s4 s6 s7 (fun b8 b9 b10 b11 q0 q1 => ?_)
  refine fd_unmatched (by omega) (by omega) (fun r le' b12 b13 b14 b15 hr => ?_)
  exact H r _ _ le' b8 b9 b10 b11 b12 b13 b14 b15 (hr.trans (fd_GQ (k := 0) q0 q1 (fun j h1 h2 => absurd h1 (by omega))))
theorem fd_askPlainly {post : St2 → Prop} {pr tn gn le pk : Int32} {a1 a2 a3 a4 a5 a6 a7 a8 a9 a10 a11 a12 a13 a14 a15 a16 a17 : Nat → Int32} {c : Nat} (hc : c ≤ 5) (s1 : ∀ i, i < c → fd_set (a1 i)) (s3 : ∀ i, i < c → fd_set (a3 i))
    (H : ∀ b6 b7, (∀ i, i < c → b6 i = a1 i) → (∀ i, i < c → b7 i = a3 i) → post (nI c, pr, tn, gn, le, pk, a1, a2, a3, a4, a5, b6, b7, a8, a9, a10, a11, a12, a13, a14, a15, a16, a17)) : wpX_askPlainly post (nI c, pr, tn, gn, le, pk, a1, a2, a3, a4, a5, a6, a7, a8, a9, a10, a11, a12, a13, a14, a15, a16, a17) := by
  have main : ∀ (d i : Nat) (a6 a7 : Nat → Int32), i + d = c → (∀ j, j < i → a6 j = a1 j) → (∀ j, j < i → a7 j = a3 j) → wX_askPlainly_2 post (nI c) pr tn gn le pk (d + 1) (nI i) a1 a2 a3 a4 a5 a6 a7 a8 a9 a10 a11 a12 a13 a14 a15 a16 a17 := by
    intro d
    induction d with
    | zero =>
      intro i a6 a7 hi q6 q7
      have e : i = c := by omega
      rw [e] at q6 q7 ⊢
      exact br_t (nI_le (Nat.le_refl c) (by omega)) (H a6 a7 q6 q7)
    | succ d ih =>
      intro i a6 a7 hi q6 q7
      have hic : i < c := by omega
      have ecl : (nI i).toNatClampNeg = i := nI_clamp (by omega)
      refine br_f (nI_ge hic (by omega)) ?_
      rw [ecl, vp_nar_byte, vp_nar_byte, fd_set_by (s1 i hic), fd_set_by (s3 i hic)]
      refine ⟨pk_in i 8 (by omega), pk_in i 8 (by omega), nm_e ⟨pk_in i 8 (by omega), pk_in i 8 (by omega), nm_e (nm_r (nI_1 i) (ih (i + 1) _ _ (by omega) (fun j hj => ?_) (fun j hj => ?_)))⟩⟩
      · by_cases e : j = i
        · rw [e, pk_us]
        · rw [pk_un e]
          exact q6 j (by omega)
      · by_cases e : j = i
        · rw [e, pk_us]
        · rw [pk_un e]
          exact q7 j (by omega)
  exact Exists.intro (c + 1) (main c 0 a6 a7 (by omega) (fun j hj => absurd hj (by omega)) (fun j hj => absurd hj (by omega)))
theorem fd_feasible {post : Int32 → St2 → Prop} {pr tn gn le pk : Int32} {a1 a2 a3 a4 a5 a6 a7 a8 a9 a10 a11 a12 a13 a14 a15 a16 a17 : Nat → Int32} {c : Nat} {st : Nat → Nat} (hc : c ≤ 5) (hst : ∀ s, s < 4 → st s ≤ 3) (h5 : ∀ s, s < 4 → a5 s = nI (st s))
    (s1 : ∀ i, i < c → fd_set (a1 i)) (s2 : ∀ i, i < c → fd_set (a2 i)) (s3 : ∀ i, i < c → fd_set (a3 i)) (s4 : ∀ i, i < c → fd_set (a4 i))
    (H0 : ∀ tn gn le a6 a7 a8 a9 a10 a11 a12 a13 a14 a15, ¬ fd_Q c (fd_B pr) st a2 a4 a1 a3 0 0 0 → post 0 (nI c, pr, tn, gn, le, pk, a1, a2, a3, a4, a5, a6, a7, a8, a9, a10, a11, a12, a13, a14, a15, a16, a17))
    (H1 : ∀ tn gn le a6 a7 a8 a9 a10 a11 a12 a13 a14 a15, fd_Q c (fd_B pr) st a2 a4 a1 a3 0 0 0 → post 1 (nI c, pr, tn, gn, le, pk, a1, a2, a3, a4, a5, a6, a7, a8, a9, a10, a11, a12, a13, a14, a15, a16, a17)) :
    wpX_feasible post (nI c, pr, tn, gn, le, pk, a1, a2, a3, a4, a5, a6, a7, a8, a9, a10, a11, a12, a13, a14, a15, a16, a17) := by
  unfold wpX_feasible
  dsimp only
  refine fd_askPlainly hc s1 s3 (fun b6 b7 q6 q7 => ?_)
  have s6 : ∀ i, i < c → fd_set (b6 i) := fun i hi => by rw [q6 i hi]; exact s1 i hi
  have s7 : ∀ i, i < c → fd_set (b7 i) := fun i hi => by rw [q7 i hi]; exact s3 i hi
  refine fd_missing hc hst h5 s2 s4 s6 s7 (fun r tn' gn' le' b8 b9 b10 b11 b12 b13 b14 b15 hr => ?_)
  have e1 : fd_Q c (fd_B pr) st a2 a4 b6 b7 0 0 0 ↔ fd_Q c (fd_B pr) st a2 a4 a1 a3 0 0 0 :=
    ⟨fd_Q_congr (fun i hi _ => (q6 i hi).symm) (fun i hi _ => (q7 i hi).symm), fd_Q_congr (fun i hi _ => q6 i hi) (fun i hi _ => q7 i hi)⟩
  exact br_c (fun z => H1 tn' gn' le' b6 b7 b8 b9 b10 b11 b12 b13 b14 b15 (e1.mp (hr.mp z))) (fun z => H0 tn' gn' le' b6 b7 b8 b9 b10 b11 b12 b13 b14 b15 (fun q => z (hr.mpr (e1.mpr q))))
end
section
/-! the same walks for the twins of the printed predicates (written by twins.py) -/
theorem fd_shift_4_v2 {post : St2 → Prop} {cp pr tn gn le pk : Int32} {a1 a2 a3 a4 a5 a6 a7 a8 a9 a10 a11 a13 a15 a16 a17 : Nat → Int32} {T G e r : Nat} {S : Nat → Nat → Prop} {rf gv0 : Nat → Option Nat} {ln : Nat → Nat}
    (hT : T ≤ 24) (hG : G ≤ 24) (m13 : fd_ma G a13 rf) (hl : ln 0 = r)
    (H : ∀ b12 b14 tk gv, fd_ma G b12 tk → fd_ma T b14 gv → fd_mat T G S tk gv → fd_ext gv0 gv r → gv r ≠ none → post (cp, pr, tn, gn, le, pk, a1, a2, a3, a4, a5, a6, a7, a8, a9, a10, a11, b12, a13, b14, a15, a16, a17)) :
    ∀ (d i g x : Nat) (tk gv : Nat → Option Nat) (a12 a14 : Nat → Int32), i < d → x + i < 24 → fd_ma G a12 tk → fd_ma T a14 gv → fd_hole T G S rf ln e tk gv i g → fd_ext gv0 gv r →
      wX_shift_2_4 post cp pr tn gn le pk (d + 1) (nI g) (nI x) a1 a2 a3 a4 a5 a6 a7 a8 a9 a10 a11 a12 a13 a14 a15 a16 a17 := by
  intro d
  induction d with
  | zero =>
    intro i g x tk gv a12 a14 hi
    exact absurd hi (by omega)
  | succ d ih =>
    intro i g x tk gv a12 a14 hi hx m12 m14 hh hext
    have hh' := hh
    obtain ⟨h1, h2, h3, h4, h5, h6, h7, h8, h9⟩ := hh'
    have hli := h5 i h1
    have ecl : (nI g).toNatClampNeg = g := nI_clamp (by omega)
    have ecl2 : (nI (ln i)).toNatClampNeg = ln i := nI_clamp (by omega)
    have e13 : a13 g = nI (ln i) := by
      rw [m13 g h2, h3]
      rfl
    have n12 : fd_ma G (upd a12 g (nI (ln i))) (fd_up tk g (some (ln i))) := fd_ma_up m12 rfl
    have n14 : fd_ma T (upd a14 (ln i) (nI g)) (fd_up gv (ln i) (some g)) := fd_ma_up m14 rfl
    have key : wX_shift_2_4 post cp pr tn gn le pk (d + 1) (a14 (ln i)) (nI (x + 1)) a1 a2 a3 a4 a5 a6 a7 a8 a9 a10 a11 (upd a12 g (nI (ln i))) a13 (upd a14 (ln i) (nI g)) a15 a16 a17 := by
      rcases h9 i (Nat.le_refl i) with ⟨z, hn⟩ | ⟨g', i', hi', hv, hrf, hS⟩
      · have ev : a14 (ln i) = -1 := by
          rw [m14 _ hli, hn]
          rfl
        rw [ev]
        have P := H _ _ _ _ n12 n14 (fd_hole_end hh hn) (fd_ext_step hext (Or.inl (by rw [z, hl]))) (by rw [z, hl, fd_us]; exact Option.some_ne_none g)
        exact br_c (fun _ => P) (fun _ => br_t (by decide) P)
      · have ev : a14 (ln i) = nI g' := by
          rw [m14 _ hli, hv]
          rfl
        rw [ev]
        exact ih i' g' (x + 1) _ _ _ _ (by omega) (by omega) n12 n14 (fd_hole_step hh hi' hv hrf hS) (fd_ext_step hext (Or.inr (fd_nos hv)))
    refine br_f (nI_ge (b := 24) (by omega) (by decide)) (br_f (nI_pos (by omega)) ⟨pk_in g 24 (by omega), ?_⟩)
    rw [ecl, e13]
    refine nm_e ⟨pk_in (ln i) 24 (by omega), ?_⟩
    rw [ecl2, fd_nb (k := ln i) (by omega), fd_nb (k := g) (by omega)]
    exact nm_e ⟨pk_in g 24 (by omega), nm_e ⟨pk_in (ln i) 24 (by omega), nm_e (nm_r (nI_1 x) key)⟩⟩
theorem fd_shift_v2 {post : St2 → Prop} {cp pr tn gn le pk : Int32} {a1 a2 a3 a4 a5 a6 a7 a8 a9 a10 a11 a12 a13 a14 a15 a16 a17 : Nat → Int32} {T G e r i g : Nat} {S : Nat → Nat → Prop} {rf tk gv : Nat → Option Nat} {ln : Nat → Nat}
    (hT : T ≤ 24) (hG : G ≤ 24) (he : e ≤ 23) (m12 : fd_ma G a12 tk) (m13 : fd_ma G a13 rf) (m14 : fd_ma T a14 gv) (hl : ln 0 = r) (hh : fd_hole T G S rf ln e tk gv i g)
    (H : ∀ b12 b14 tk' gv', fd_ma G b12 tk' → fd_ma T b14 gv' → fd_mat T G S tk' gv' → fd_ext gv gv' r → gv' r ≠ none → post (cp, pr, tn, gn, le, pk, a1, a2, a3, a4, a5, a6, a7, a8, a9, a10, a11, b12, a13, b14, a15, a16, a17)) : wpX_shift_2 post (cp, pr, tn, gn, le, pk, a1, a2, a3, a4, a5, a6, a7, a8, a9, a10, a11, a12, a13, a14, a15, a16, a17) (nI g) :=
  Exists.intro (i + 1 + 1) (fd_shift_4_v2 hT hG m13 hl H (i + 1) i g 0 tk gv a12 a14 (by omega) (by have := hh.1; omega) m12 m14 hh fd_ext_0)
theorem fd_look_2_v2 {post : Int32 → St2 → Prop} {cp pr pk : Int32} {a1 a2 a3 a4 a5 a6 a7 a8 a9 a10 a11 a12 a14 a16 a17 : Nat → Int32} {T G r c k0 : Nat} {tk gv : Nat → Option Nat}
    (hT : T ≤ 23) (hG : G ≤ 24) (m12 : fd_ma G a12 tk) (hm : fd_mat T G (fd_S a8 a9 a10 a11) tk gv)
    (H1 : ∀ (e : Nat) (ln : Nat → Nat) (rf : Nat → Option Nat) (b13 b15 : Nat → Int32), fd_bfs T G (fd_S a8 a9 a10 a11) tk gv rf ln e r → c < e → (∀ i g, i < c + 1 → g < G → fd_S a8 a9 a10 a11 (ln i) g → rf g ≠ none) → fd_ma G b13 rf → (∀ j, j < e → b15 j = nI (ln j)) → post (-1) (cp, pr, nI T, nI G, nI e, pk, a1, a2, a3, a4, a5, a6, a7, a8, a9, a10, a11, a12, b13, a14, b15, a16, a17))
    (H2 : ∀ (g e : Nat) (ln : Nat → Nat) (rf : Nat → Option Nat) (b13 b15 : Nat → Int32), g < G → tk g = none → fd_bfs T G (fd_S a8 a9 a10 a11) tk gv rf ln e r → c < e → fd_S a8 a9 a10 a11 (ln c) g → fd_ma G b13 (fd_up rf g (some (ln c))) → post (nI g) (cp, pr, nI T, nI G, nI e, pk, a1, a2, a3, a4, a5, a6, a7, a8, a9, a10, a11, a12, b13, a14, b15, a16, a17)) :
    ∀ (d g e : Nat) (ln : Nat → Nat) (rf : Nat → Option Nat) (a13 a15 : Nat → Int32), g + d = G → fd_bfs T G (fd_S a8 a9 a10 a11) tk gv rf ln e r → c < e → ln c = k0 →
      (∀ i g', i < c → g' < G → fd_S a8 a9 a10 a11 (ln i) g' → rf g' ≠ none) → (∀ g', g' < g → fd_S a8 a9 a10 a11 k0 g' → rf g' ≠ none) → fd_ma G a13 rf → (∀ j, j < e → a15 j = nI (ln j)) →
      wX_look_2_2 post (nI k0) cp pr (nI T) (nI G) pk (d + 1) (nI g) (nI e) a1 a2 a3 a4 a5 a6 a7 a8 a9 a10 a11 a12 a13 a14 a15 a16 a17 := by
  intro d
  induction d with
  | zero =>
    intro g e ln rf a13 a15 hg hb hc hk hd1 hd2 m13 m15
    refine br_t (nI_le (by omega) (by omega)) (H1 e ln rf a13 a15 hb hc (fun i g' hi hg' hs => ?_) m13 m15)
    by_cases ei : i = c
    · rw [ei, hk] at hs
      exact hd2 g' (by omega) hs
    · exact hd1 i g' (by omega) hg' hs
  | succ d ih =>
    intro g e ln rf a13 a15 hg hb hc hk hd1 hd2 m13 m15
    have hgG : g < G := by omega
    have heT := fd_bfs_e hb
    have hk0 : k0 < T := by
      rw [← hk]
      exact hb.2.2.2.1 c hc
    have ecl : (nI g).toNatClampNeg = g := nI_clamp (by omega)
    refine br_f (nI_ge (by omega) (by omega)) ⟨pk_in g 24 (by omega), ?_⟩
    rw [ecl]
    cases hr : rf g with
    | some k =>
      have hb7 := (hb.2.2.2.2.2.2 g k hgG hr).1
      have e13 : a13 g = nI k := by
        rw [m13 g hgG, hr]
        rfl
      refine br_t (by rw [e13]; exact nI_pos' (by omega)) (nm_r (nI_1 g) (ih (g + 1) e ln rf a13 a15 (by omega) hb hc hk hd1 (fun g' hg' hs => ?_) m13 m15))
      by_cases eg : g' = g
      · rw [eg]
        exact fd_nos hr
      · exact hd2 g' (by omega) hs
    | none =>
      have e13 : a13 g = -1 := by
        rw [m13 g hgG, hr]
        rfl
      refine br_f (by rw [e13]; decide) (fd_suits (by omega) (by omega) (fun hs => ?_) (fun hs => ?_))
      · refine br_t rfl (nm_r (nI_1 g) (ih (g + 1) e ln rf a13 a15 (by omega) hb hc hk hd1 (fun g' hg' hs' => ?_) m13 m15))
        by_cases eg : g' = g
        · rw [eg] at hs'
          exact absurd hs' hs
        · exact hd2 g' (by omega) hs'
      · refine br_f (by decide) ⟨pk_in g 24 (by omega), ?_⟩
        rw [fd_nb (k := k0) (by omega)]
        have n13 : fd_ma G (upd a13 g (nI k0)) (fd_up rf g (some (ln c))) := fd_ma_up m13 (by rw [hk]; rfl)
        refine nm_e ⟨pk_in g 24 (by omega), ?_⟩
        cases ht : tk g with
        | some k =>
          have hkT := (hm.1 g k hgG ht).1
          have e12 : a12 g = nI k := by
            rw [m12 g hgG, ht]
            rfl
          rw [e12]
          refine br_t (nI_pos' (by omega)) (br_f (nI_ge (b := 24) (by omega) (by decide)) ⟨pk_in g 24 (by omega), pk_in e 24 (by omega), ?_⟩)
          rw [vp_nar_byte, fd_nb (k := k) (by omega), nI_clamp (n := e) (by omega)]
          refine nm_e (nm_r (nI_1 e) (nm_r (nI_1 g) (ih (g + 1) (e + 1) (fd_up ln e k) (fd_up rf g (some (ln c))) _ _ (by omega) (fd_bfs_add hm hb hgG hr ht hc (by rw [hk]; exact hs)) (by omega) (by rw [fd_un (show c ≠ e by omega)]; exact hk) (fun i g' hi hg' hs' => ?_) (fun g' hg' hs' => ?_) n13 (fun j hj => ?_))))
          · rw [fd_un (show i ≠ e by omega)] at hs'
            by_cases eg : g' = g
            · rw [eg, fd_us]
              exact Option.some_ne_none _
            · rw [fd_un eg]
              exact hd1 i g' hi hg' hs'
          · by_cases eg : g' = g
            · rw [eg, fd_us]
              exact Option.some_ne_none _
            · rw [fd_un eg]
              exact hd2 g' (by omega) hs'
          · by_cases ej : j = e
            · rw [ej, pk_us, fd_us]
            · rw [pk_un ej, fd_un ej]
              exact m15 j (by omega)
        | none =>
          have e12 : a12 g = -1 := by
            rw [m12 g hgG, ht]
            rfl
          exact br_f (by rw [e12]; decide) (H2 g e ln rf _ a15 hgG ht hb hc (by rw [hk]; exact hs) n13)
theorem fd_serve_40_v2 {post : Int32 → St2 → Prop} {cp pr pk : Int32} {a1 a2 a3 a4 a5 a6 a7 a8 a9 a10 a11 a12 a14 a16 a17 : Nat → Int32} {T G r : Nat} {tk gv : Nat → Option Nat}
    (hT : T ≤ 22) (hG : G ≤ 24) (m12 : fd_ma G a12 tk) (m14 : fd_ma T a14 gv) (hm : fd_mat T G (fd_S a8 a9 a10 a11) tk gv)
    (H0 : ∀ le b13 b15, ¬ fd_PM T G (fd_S a8 a9 a10 a11) → post 0 (cp, pr, nI T, nI G, le, pk, a1, a2, a3, a4, a5, a6, a7, a8, a9, a10, a11, a12, b13, a14, b15, a16, a17))
    (H1 : ∀ le b12 b13 b14 b15 tk' gv', fd_ma G b12 tk' → fd_ma T b14 gv' → fd_mat T G (fd_S a8 a9 a10 a11) tk' gv' → fd_ext gv gv' r → gv' r ≠ none → post 1 (cp, pr, nI T, nI G, le, pk, a1, a2, a3, a4, a5, a6, a7, a8, a9, a10, a11, b12, b13, b14, b15, a16, a17)) :
    ∀ (d c e : Nat) (ln : Nat → Nat) (rf : Nat → Option Nat) (a13 a15 : Nat → Int32), c + d = 24 → c ≤ e → fd_bfs T G (fd_S a8 a9 a10 a11) tk gv rf ln e r →
      (∀ i g, i < c → g < G → fd_S a8 a9 a10 a11 (ln i) g → rf g ≠ none) → fd_ma G a13 rf → (∀ j, j < e → a15 j = nI (ln j)) →
      wX_serve_2_40 post (d + 1) (-1) (nI c) cp pr (nI T) (nI G) (nI e) pk a1 a2 a3 a4 a5 a6 a7 a8 a9 a10 a11 a12 a13 a14 a15 a16 a17 := by
  intro d
  induction d with
  | zero =>
    intro c e ln rf a13 a15 hcd hce hb
    have := fd_bfs_e hb
    exact absurd hce (by omega)
  | succ d ih =>
    intro c e ln rf a13 a15 hcd hce hb hd m13 m15
    have heT := fd_bfs_e hb
    by_cases hc : e ≤ c
    · exact br_t (nI_le hc (by omega)) (br_f (by decide) (H0 (nI e) a13 a15 (fd_fail hm hb (fun i g hi => hd i g (by omega)))))
    · refine br_f (nI_ge (by omega) (by omega)) (br_f (nI_ge (b := 24) (by omega) (by decide)) (br_f (by decide) ⟨pk_in c 24 (by omega), ?_⟩))
      rw [nI_clamp (n := c) (by omega), m15 c (by omega)]
      refine Exists.intro (G + 1) ?_
      refine fd_look_2_v2 (k0 := ln c) (c := c) (r := r) (by omega) hG m12 hm ?_ ?_ G 0 e ln rf a13 a15 (by omega) hb (by omega) rfl hd (fun g' h => absurd h (by omega)) m13 m15
      · intro e' ln' rf' b13 b15 hb' hc' hd' m13' m15'
        exact nm_r (nI_1 c) (ih (c + 1) e' ln' rf' b13 b15 (by omega) (by omega) hb' hd' m13' m15')
      · intro g e' ln' rf' b13 b15 hg ht hb' hc' hS m13'
        have heT' := fd_bfs_e hb'
        have P : wX_serve_2_75 post (nI g) cp pr (nI T) (nI G) (nI e') pk a1 a2 a3 a4 a5 a6 a7 a8 a9 a10 a11 a12 b13 a14 b15 a16 a17 := by
          refine br_t (nI_pos' (by omega)) ?_
          refine fd_shift_v2 (T := T) (G := G) (S := fd_S a8 a9 a10 a11) (r := r) (e := e') (i := c) (by omega) hG (by omega) m12 m13' m14 hb'.2.1 (fd_hole_0 hm hb' hg ht hc' hS) ?_
          intro b12 b14 tk' gv' q1 q2 q3 q4 q5
          exact H1 (nI e') b12 b13 b14 b15 tk' gv' q1 q2 q3 q4 q5
        refine nm_r (nI_1 c) ?_
        exact br_c (fun _ => P) (fun _ => br_c (fun _ => P) (fun _ => br_t (nI_pos' (by omega)) P))
theorem fd_serve_v2 {post : Int32 → St2 → Prop} {cp pr le pk : Int32} {a1 a2 a3 a4 a5 a6 a7 a8 a9 a10 a11 a12 a13 a14 a15 a16 a17 : Nat → Int32} {T G r : Nat} {tk gv : Nat → Option Nat}
    (hT : T ≤ 22) (hG : G ≤ 24) (hr : r < T) (hgr : gv r = none) (m12 : fd_ma G a12 tk) (m14 : fd_ma T a14 gv) (hm : fd_mat T G (fd_S a8 a9 a10 a11) tk gv)
    (H0 : ∀ le b13 b15, ¬ fd_PM T G (fd_S a8 a9 a10 a11) → post 0 (cp, pr, nI T, nI G, le, pk, a1, a2, a3, a4, a5, a6, a7, a8, a9, a10, a11, a12, b13, a14, b15, a16, a17))
    (H1 : ∀ le b12 b13 b14 b15 tk' gv', fd_ma G b12 tk' → fd_ma T b14 gv' → fd_mat T G (fd_S a8 a9 a10 a11) tk' gv' → fd_ext gv gv' r → gv' r ≠ none → post 1 (cp, pr, nI T, nI G, le, pk, a1, a2, a3, a4, a5, a6, a7, a8, a9, a10, a11, b12, b13, b14, b15, a16, a17)) :
    wpX_serve_2 post (cp, pr, nI T, nI G, le, pk, a1, a2, a3, a4, a5, a6, a7, a8, a9, a10, a11, a12, a13, a14, a15, a16, a17) (nI r) := by
  have main : ∀ (d g : Nat) (a13 : Nat → Int32), g + d = G → fd_ma g a13 (fun _ => none) → wX_serve_2_2 post (nI r) cp pr (nI T) (nI G) le pk (d + 1) (nI g) a1 a2 a3 a4 a5 a6 a7 a8 a9 a10 a11 a12 a13 a14 a15 a16 a17 := by
    intro d
    induction d with
    | zero =>
      intro g a13 hg m13
      refine br_t (nI_le (by omega) (by omega)) ?_
      rw [fd_nb (k := r) (by omega)]
      refine nm_e (Exists.intro (24 + 1) ?_)
      exact fd_serve_40_v2 hT hG m12 m14 hm H0 H1 24 0 1 (fun _ => r) (fun _ => none) a13 _ (by omega) (by omega) (fd_bfs_0 hr hgr rfl (fun _ _ => rfl)) (fun i g h => absurd h (by omega)) (by rw [show G = g by omega]; exact m13) (fun j hj => by rw [show j = 0 by omega, pk_us])
    | succ d ih =>
      intro g a13 hg m13
      refine br_f (nI_ge (by omega) (by omega)) ⟨pk_in g 24 (by omega), ?_⟩
      rw [nI_clamp (n := g) (by omega)]
      refine nm_e (nm_r (nI_1 g) (ih (g + 1) _ (by omega) (fun j hj => ?_)))
      by_cases e : j = g
      · rw [e, pk_us]
        rfl
      · rw [pk_un e]
        exact m13 j (by omega)
  exact Exists.intro (G + 1) (main G 0 a13 (by omega) (fun j hj => absurd hj (by omega)))
theorem fd_unm_50_v2 {post : Int32 → St2 → Prop} {cp pr pk : Int32} {a1 a2 a3 a4 a5 a6 a7 a8 a9 a10 a11 a16 a17 : Nat → Int32} {T G : Nat} (hT : T ≤ 22) (hG : G ≤ 24)
    (H : ∀ r le b12 b13 b14 b15, (r = 0 ↔ fd_PM T G (fd_S a8 a9 a10 a11)) → post r (cp, pr, nI T, nI G, le, pk, a1, a2, a3, a4, a5, a6, a7, a8, a9, a10, a11, b12, b13, b14, b15, a16, a17)) :
    ∀ (d k c : Nat) (le : Int32) (a12 a13 a14 a15 : Nat → Int32) (tk gv : Nat → Option Nat), k + d = T → c ≤ k → fd_ma G a12 tk → fd_ma T a14 gv → fd_mat T G (fd_S a8 a9 a10 a11) tk gv → (∀ j, k ≤ j → gv j = none) →
      (c = 0 → ∀ j, j < k → gv j ≠ none) → (0 < c → ¬ fd_PM T G (fd_S a8 a9 a10 a11)) → wX_unmatched_2_50 post (d + 1) (nI c) (nI k) cp pr (nI T) (nI G) le pk a1 a2 a3 a4 a5 a6 a7 a8 a9 a10 a11 a12 a13 a14 a15 a16 a17 := by
  intro d
  induction d with
  | zero =>
    intro k c le a12 a13 a14 a15 tk gv hk hc m12 m14 hm hgv h0 h1
    refine br_t (nI_le (by omega) (by omega)) (H (nI c) le a12 a13 a14 a15 ⟨fun z => ?_, fun hp => ?_⟩)
    · have z' : nI c = nI 0 := z
      have hc0 : c = 0 := (nI_eq (by omega) (by omega)).mp z'
      exact fd_PM_of hm (fun j hj => h0 hc0 j (by omega))
    · rcases Nat.eq_zero_or_pos c with z | z
      · rw [z]
        rfl
      · exact absurd hp (h1 z)
  | succ d ih =>
    intro k c le a12 a13 a14 a15 tk gv hk hc m12 m14 hm hgv h0 h1
    refine br_f (nI_ge (by omega) (by omega)) ?_
    refine fd_serve_v2 hT hG (show k < T by omega) (hgv k (Nat.le_refl k)) m12 m14 hm ?_ ?_
    · intro le' b13 b15 hn
      exact br_t rfl (nm_r (nI_1 c) (nm_r (nI_1 k) (ih (k + 1) (c + 1) le' a12 b13 a14 b15 tk gv (by omega) (by omega) m12 m14 hm (fun j hj => hgv j (by omega)) (fun z => absurd z (by omega)) (fun _ => hn))))
    · intro le' b12 b13 b14 b15 tk' gv' q1 q2 q3 q4 q5
      refine br_f (by decide) (nm_r (nI_1 k) (ih (k + 1) c le' b12 b13 b14 b15 tk' gv' (by omega) (by omega) q1 q2 q3 (fun j hj => q4.2 j (by omega) (hgv j (by omega))) (fun z j hj => ?_) h1))
      by_cases e : j = k
      · rw [e]
        exact q5
      · exact q4.1 j (h0 z j (by omega))
theorem fd_unmatched_v2 {post : Int32 → St2 → Prop} {cp pr le pk : Int32} {a1 a2 a3 a4 a5 a6 a7 a8 a9 a10 a11 a12 a13 a14 a15 a16 a17 : Nat → Int32} {T G : Nat} (hT : T ≤ 22) (hG : G ≤ 24)
    (H : ∀ r le b12 b13 b14 b15, (r = 0 ↔ fd_PM T G (fd_S a8 a9 a10 a11)) → post r (cp, pr, nI T, nI G, le, pk, a1, a2, a3, a4, a5, a6, a7, a8, a9, a10, a11, b12, b13, b14, b15, a16, a17)) :
    wpX_unmatched_2 post (cp, pr, nI T, nI G, le, pk, a1, a2, a3, a4, a5, a6, a7, a8, a9, a10, a11, a12, a13, a14, a15, a16, a17) := by
  have w25 : ∀ (d k : Nat) (a12 a14 : Nat → Int32), k + d = T → fd_ma G a12 (fun _ => none) → fd_ma k a14 (fun _ => none) → wX_unmatched_2_25 post cp pr (nI T) (nI G) le pk (d + 1) (nI k) a1 a2 a3 a4 a5 a6 a7 a8 a9 a10 a11 a12 a13 a14 a15 a16 a17 := by
    intro d
    induction d with
    | zero =>
      intro k a12 a14 hk m12 m14
      refine br_t (nI_le (by omega) (by omega)) (Exists.intro (T + 1) ?_)
      exact fd_unm_50_v2 hT hG H T 0 0 le a12 a13 a14 a15 (fun _ => none) (fun _ => none) (by omega) (by omega) m12 (by rw [show T = k by omega]; exact m14) ⟨fun g k _ h => absurd rfl (fd_nos h), fun k g _ h => absurd rfl (fd_nos h)⟩ (fun _ _ => rfl) (fun _ j hj => absurd hj (by omega)) (fun z => absurd z (by omega))
    | succ d ih =>
      intro k a12 a14 hk m12 m14
      refine br_f (nI_ge (by omega) (by omega)) ⟨pk_in k 24 (by omega), ?_⟩
      rw [nI_clamp (n := k) (by omega)]
      refine nm_e (nm_r (nI_1 k) (ih (k + 1) a12 _ (by omega) m12 (fun j hj => ?_)))
      by_cases e : j = k
      · rw [e, pk_us]
        rfl
      · rw [pk_un e]
        exact m14 j (by omega)
  have w2 : ∀ (d g : Nat) (a12 : Nat → Int32), g + d = G → fd_ma g a12 (fun _ => none) → wX_unmatched_2_2 post cp pr (nI T) (nI G) le pk (d + 1) (nI g) a1 a2 a3 a4 a5 a6 a7 a8 a9 a10 a11 a12 a13 a14 a15 a16 a17 := by
    intro d
    induction d with
    | zero =>
      intro g a12 hg m12
      exact br_t (nI_le (by omega) (by omega)) (Exists.intro (T + 1) (w25 T 0 a12 a14 (by omega) (by rw [show G = g by omega]; exact m12) (fun j hj => absurd hj (by omega))))
    | succ d ih =>
      intro g a12 hg m12
      refine br_f (nI_ge (by omega) (by omega)) ⟨pk_in g 24 (by omega), ?_⟩
      rw [nI_clamp (n := g) (by omega)]
      refine nm_e (nm_r (nI_1 g) (ih (g + 1) _ (by omega) (fun j hj => ?_)))
      by_cases e : j = g
      · rw [e, pk_us]
        rfl
      · rw [pk_un e]
        exact m12 j (by omega)
  exact Exists.intro (G + 1) (w2 G 0 a12 (by omega) (fun j hj => absurd hj (by omega)))
theorem fd_addGiver_v2 {post : St2 → Prop} {cp pr tn le pk : Int32} {a1 a2 a3 a4 a5 a6 a7 a8 a9 a10 a11 a12 a13 a14 a15 a16 a17 : Nat → Int32} {g : Nat} {x y x' y' : Int32} (hg : g < 24) (hx : x.toInt8.toInt32 = x') (hy : y.toInt8.toInt32 = y') (H : post (cp, pr, tn, nI (g + 1), le, pk, a1, a2, a3, a4, a5, a6, a7, a8, a9, upd a10 g x', upd a11 g y', a12, a13, a14, a15, a16, a17)) : wpX_addGiver_2 post (cp, pr, tn, nI g, le, pk, a1, a2, a3, a4, a5, a6, a7, a8, a9, a10, a11, a12, a13, a14, a15, a16, a17) x y := by
  have e1 : (nI g).toNatClampNeg = g := nI_clamp (by omega)
  unfold wpX_addGiver_2
  dsimp only
  rw [e1, hx, hy]
  exact br_f (nI_ge (b := 24) (by omega) (by decide)) ⟨pk_in g 24 hg, nm_e ⟨pk_in g 24 hg, nm_e (nm_r (nI_1 g) H)⟩⟩
theorem fd_addTaker_v2 {post : St2 → Prop} {cp pr gn le pk : Int32} {a1 a2 a3 a4 a5 a6 a7 a8 a9 a10 a11 a12 a13 a14 a15 a16 a17 : Nat → Int32} {g : Nat} {x y x' y' : Int32} (hg : g < 24) (hx : x.toInt8.toInt32 = x') (hy : y.toInt8.toInt32 = y') (H : post (cp, pr, nI (g + 1), gn, le, pk, a1, a2, a3, a4, a5, a6, a7, upd a8 g x', upd a9 g y', a10, a11, a12, a13, a14, a15, a16, a17)) : wpX_addTaker_2 post (cp, pr, nI g, gn, le, pk, a1, a2, a3, a4, a5, a6, a7, a8, a9, a10, a11, a12, a13, a14, a15, a16, a17) x y := by
  have e1 : (nI g).toNatClampNeg = g := nI_clamp (by omega)
  unfold wpX_addTaker_2
  dsimp only
  rw [e1, hx, hy]
  exact br_f (nI_ge (b := 24) (by omega) (by decide)) ⟨pk_in g 24 hg, nm_e ⟨pk_in g 24 hg, nm_e (nm_r (nI_1 g) H)⟩⟩
theorem fd_gather_51_v2 {post : St2 → Prop} {pr le pk : Int32} {a1 a2 a3 a4 a5 a6 a7 a12 a13 a14 a15 a16 a17 : Nat → Int32} {c : Nat} {st : Nat → Nat} (hc : c ≤ 5) (hst : ∀ s, s < 4 → st s ≤ 3)
    (s2 : ∀ i, i < c → fd_set (a2 i)) (s4 : ∀ i, i < c → fd_set (a4 i)) (s6 : ∀ i, i < c → fd_set (a6 i)) (s7 : ∀ i, i < c → fd_set (a7 i))
    (H : ∀ b8 b9 b10 b11, fd_g0 st (fd_pre st 4) b10 b11 → fd_g1 c (fd_B pr) st a2 a4 a6 a7 (fd_pos (fd_B pr) c) b8 b9 b10 b11 → post (nI c, pr, nI (fd_pos (fd_B pr) c), nI (fd_pre st 4 + fd_pos (fd_B pr) c), le, pk, a1, a2, a3, a4, a5, a6, a7, b8, b9, b10, b11, a12, a13, a14, a15, a16, a17)) :
    ∀ (d i : Nat) (a8 a9 a10 a11 : Nat → Int32), i + d = c → fd_g0 st (fd_pre st 4) a10 a11 → fd_g1 c (fd_B pr) st a2 a4 a6 a7 (fd_pos (fd_B pr) i) a8 a9 a10 a11 →
      wX_gather_2_51 post (d + 1) (nI i) (nI c) pr (nI (fd_pos (fd_B pr) i)) (nI (fd_pre st 4 + fd_pos (fd_B pr) i)) le pk a1 a2 a3 a4 a5 a6 a7 a8 a9 a10 a11 a12 a13 a14 a15 a16 a17 := by
  have hpre := fd_pre4 hst
  intro d
  induction d with
  | zero =>
    intro i a8 a9 a10 a11 hi q0 q1
    have e : i = c := by omega
    rw [e] at q1 ⊢
    exact br_t (nI_le (Nat.le_refl c) (by omega)) (H a8 a9 a10 a11 q0 q1)
  | succ d ih =>
    intro i a8 a9 a10 a11 hi q0 q1
    have hic : i < c := by omega
    have hpi := fd_pos_le (fd_B pr) i
    have ecl : (nI i).toNatClampNeg = i := nI_clamp (by omega)
    refine br_f (nI_ge hic (by omega)) (br_c (fun z => ?_) (fun z => ?_))
    · have hf := fd_B_f z
      refine nm_r (nI_1 i) ?_
      have t := ih (i + 1) a8 a9 a10 a11 (by omega) q0 (by rw [fd_pos_f hf]; exact q1)
      rw [fd_pos_f hf] at t
      exact t
    · have ht := fd_B_t z
      rw [ecl]
      refine ⟨pk_in i 8 (by omega), pk_in i 8 (by omega), ?_⟩
      refine fd_addGiver_v2 (by omega) (fd_set_by (s7 i hic)) (fd_set_by (s4 i hic)) ?_
      refine ⟨pk_in i 8 (by omega), pk_in i 8 (by omega), ?_⟩
      refine fd_addTaker_v2 (by omega) (fd_set_by (s6 i hic)) (fd_set_by (s2 i hic)) ?_
      refine nm_r (nI_1 i) ?_
      have hbk := fd_bk_pos c i hic ht
      have t := ih (i + 1) (upd a8 (fd_pos (fd_B pr) i) (a6 i)) (upd a9 (fd_pos (fd_B pr) i) (a2 i)) (upd a10 (fd_pre st 4 + fd_pos (fd_B pr) i) (a7 i)) (upd a11 (fd_pre st 4 + fd_pos (fd_B pr) i) (a4 i)) (by omega)
        (fun g hg => by rw [pk_un (by omega), pk_un (by omega)]; exact q0 g hg)
        (fun j hj => by
          rw [fd_pos_t ht] at hj
          by_cases ej : j = fd_pos (fd_B pr) i
          · rw [ej, pk_us, pk_us, pk_us, pk_us, hbk]
            exact ⟨rfl, rfl, rfl, rfl⟩
          · rw [pk_un ej, pk_un ej, pk_un (by omega), pk_un (by omega)]
            exact q1 j (by omega))
      rw [fd_pos_t ht, ← Nat.add_assoc] at t
      exact t
theorem fd_gather_19_v2 {post : St2 → Prop} {cp pr tn le pk : Int32} {a1 a2 a3 a4 a5 a6 a7 a8 a9 a12 a13 a14 a15 a16 a17 : Nat → Int32} {st : Nat → Nat} {s : Nat} {J : Int32 → Int32 → Int32 → Int32 → Int32 → Int32 → Int32 → (Nat → Int32) → (Nat → Int32) → (Nat → Int32) → (Nat → Int32) → (Nat → Int32) → (Nat → Int32) → (Nat → Int32) → (Nat → Int32) → (Nat → Int32) → (Nat → Int32) → (Nat → Int32) → (Nat → Int32) → (Nat → Int32) → (Nat → Int32) → (Nat → Int32) → (Nat → Int32) → (Nat → Int32) → Prop}
    (hs : s < 4) (hst : ∀ s, s < 4 → st s ≤ 3) (h5 : a5 s = nI (st s))
    (H : ∀ b10 b11, fd_g0 st (fd_pre st (s + 1)) b10 b11 → J (nI (s + 1)) cp pr tn (nI (fd_pre st (s + 1))) le pk a1 a2 a3 a4 a5 a6 a7 a8 a9 b10 b11 a12 a13 a14 a15 a16 a17) :
    ∀ (d k : Nat) (a10 a11 : Nat → Int32), k + d = st s → fd_g0 st (fd_pre st s + k) a10 a11 → wX_gather_2_19 post J (nI s) (d + 1) (nI k) cp pr tn (nI (fd_pre st s + k)) le pk a1 a2 a3 a4 a5 a6 a7 a8 a9 a10 a11 a12 a13 a14 a15 a16 a17 := by
  have hpre := fd_pre4 hst
  have hss := hst s hs
  have hp1 : fd_pre st (s + 1) = fd_pre st s + st s := rfl
  have hp2 := fd_pre_mono st (s + 1) (4 - (s + 1))
  rw [show s + 1 + (4 - (s + 1)) = 4 by omega] at hp2
  have ecl : (nI s).toNatClampNeg = s := nI_clamp (by omega)
  intro d
  induction d with
  | zero =>
    intro k a10 a11 hk q0
    have e : fd_pre st s + k = fd_pre st (s + 1) := by omega
    rw [e] at q0 ⊢
    refine And.intro (pk_in s 4 hs) ?_
    rw [ecl, h5]
    exact br_t (nI_le (by omega) (by omega)) (nm_r (nI_1 s) (H a10 a11 q0))
  | succ d ih =>
    intro k a10 a11 hk q0
    refine And.intro (pk_in s 4 hs) ?_
    rw [ecl, h5]
    refine br_f (nI_ge (by omega) (by omega)) ?_
    refine fd_addGiver_v2 (x' := fd_one s) (y' := 0) (by omega) rfl (by decide) ?_
    refine nm_r (nI_1 k) ?_
    refine ih (k + 1) _ _ (by omega) (fun g hg => ?_)
    by_cases eg : g = fd_pre st s + k
    · rw [eg, pk_us, pk_us, fd_sg_at (s := s) (by omega) (by omega) 4 hs]
      exact ⟨rfl, rfl⟩
    · rw [pk_un eg, pk_un eg]
      exact q0 g (by omega)
theorem fd_gather_v2 {post : St2 → Prop} {pr tn gn le pk : Int32} {a1 a2 a3 a4 a5 a6 a7 a8 a9 a10 a11 a12 a13 a14 a15 a16 a17 : Nat → Int32} {c : Nat} {st : Nat → Nat} (hc : c ≤ 5) (hst : ∀ s, s < 4 → st s ≤ 3) (h5 : ∀ s, s < 4 → a5 s = nI (st s))
    (s2 : ∀ i, i < c → fd_set (a2 i)) (s4 : ∀ i, i < c → fd_set (a4 i)) (s6 : ∀ i, i < c → fd_set (a6 i)) (s7 : ∀ i, i < c → fd_set (a7 i))
    (H : ∀ b8 b9 b10 b11, fd_g0 st (fd_pre st 4) b10 b11 → fd_g1 c (fd_B pr) st a2 a4 a6 a7 (fd_pos (fd_B pr) c) b8 b9 b10 b11 → post (nI c, pr, nI (fd_pos (fd_B pr) c), nI (fd_pre st 4 + fd_pos (fd_B pr) c), le, pk, a1, a2, a3, a4, a5, a6, a7, b8, b9, b10, b11, a12, a13, a14, a15, a16, a17)) :
    wpX_gather_2 post (nI c, pr, tn, gn, le, pk, a1, a2, a3, a4, a5, a6, a7, a8, a9, a10, a11, a12, a13, a14, a15, a16, a17) := by
  have main : ∀ (d s : Nat) (a10 a11 : Nat → Int32), s + d = 4 → fd_g0 st (fd_pre st s) a10 a11 → wX_gather_2_12 post (d + 1) (nI s) (nI c) pr (nI 0) (nI (fd_pre st s)) le pk a1 a2 a3 a4 a5 a6 a7 a8 a9 a10 a11 a12 a13 a14 a15 a16 a17 := by
    intro d
    induction d with
    | zero =>
      intro s a10 a11 hs q0
      have e : s = 4 := by omega
      rw [e] at q0 ⊢
      refine br_t (nI_le (a := 4) (Nat.le_refl 4) (by decide)) (Exists.intro (c + 1) ?_)
      exact fd_gather_51_v2 hc hst s2 s4 s6 s7 H c 0 a8 a9 a10 a11 (by omega) q0 (fun j hj => absurd hj (Nat.not_lt_zero j))
    | succ d ih =>
      intro s a10 a11 hs q0
      have hs4 : s < 4 := by omega
      refine br_f (nI_ge (b := 4) hs4 (by decide)) (Exists.intro (st s + 1) ?_)
      exact fd_gather_19_v2 hs4 hst (h5 s hs4) (fun b10 b11 q => ih (s + 1) b10 b11 (by omega) q) (st s) 0 a10 a11 (by omega) q0
  exact Exists.intro (4 + 1) (main 4 0 a10 a11 (by omega) (fun g hg => absurd hg (Nat.not_lt_zero g)))
theorem fd_missing_v2 {post : Int32 → St2 → Prop} {pr tn gn le pk : Int32} {a1 a2 a3 a4 a5 a6 a7 a8 a9 a10 a11 a12 a13 a14 a15 a16 a17 : Nat → Int32} {c : Nat} {st : Nat → Nat} (hc : c ≤ 5) (hst : ∀ s, s < 4 → st s ≤ 3) (h5 : ∀ s, s < 4 → a5 s = nI (st s))
    (s2 : ∀ i, i < c → fd_set (a2 i)) (s4 : ∀ i, i < c → fd_set (a4 i)) (s6 : ∀ i, i < c → fd_set (a6 i)) (s7 : ∀ i, i < c → fd_set (a7 i))
    (H : ∀ r tn gn le a8 a9 a10 a11 a12 a13 a14 a15, (r = 0 ↔ fd_Q c (fd_B pr) st a2 a4 a6 a7 0 0 0) → post r (nI c, pr, tn, gn, le, pk, a1, a2, a3, a4, a5, a6, a7, a8, a9, a10, a11, a12, a13, a14, a15, a16, a17)) :
    wpX_missing_2 post (nI c, pr, tn, gn, le, pk, a1, a2, a3, a4, a5, a6, a7, a8, a9, a10, a11, a12, a13, a14, a15, a16, a17) := by
  have hpre := fd_pre4 hst
  have hpos := fd_pos_le (fd_B pr) c
  unfold wpX_missing_2
  dsimp only
  refine fd_gather_v2 hc hst h5 s2 s4 s6 s7 (fun b8 b9 b10 b11 q0 q1 => ?_)
  refine fd_unmatched_v2 (by omega) (by omega) (fun r le' b12 b13 b14 b15 hr => ?_)
  exact H r _ _ le' b8 b9 b10 b11 b12 b13 b14 b15 (hr.trans (fd_GQ (k := 0) q0 q1 (fun j h1 h2 => absurd h1 (by omega))))
theorem fd_shift_4_v3 {post : St2 → Prop} {cp pr tn gn le pk : Int32} {a1 a2 a3 a4 a5 a6 a7 a8 a9 a10 a11 a13 a15 a16 a17 : Nat → Int32} {T G e r : Nat} {S : Nat → Nat → Prop} {rf gv0 : Nat → Option Nat} {ln : Nat → Nat}
    (hT : T ≤ 24) (hG : G ≤ 24) (m13 : fd_ma G a13 rf) (hl : ln 0 = r)
    (H : ∀ b12 b14 tk gv, fd_ma G b12 tk → fd_ma T b14 gv → fd_mat T G S tk gv → fd_ext gv0 gv r → gv r ≠ none → post (cp, pr, tn, gn, le, pk, a1, a2, a3, a4, a5, a6, a7, a8, a9, a10, a11, b12, a13, b14, a15, a16, a17)) :
    ∀ (d i g x : Nat) (tk gv : Nat → Option Nat) (a12 a14 : Nat → Int32), i < d → x + i < 24 → fd_ma G a12 tk → fd_ma T a14 gv → fd_hole T G S rf ln e tk gv i g → fd_ext gv0 gv r →
      wX_shift_3_4 post cp pr tn gn le pk (d + 1) (nI g) (nI x) a1 a2 a3 a4 a5 a6 a7 a8 a9 a10 a11 a12 a13 a14 a15 a16 a17 := by
  intro d
  induction d with
  | zero =>
    intro i g x tk gv a12 a14 hi
    exact absurd hi (by omega)
  | succ d ih =>
    intro i g x tk gv a12 a14 hi hx m12 m14 hh hext
    have hh' := hh
    obtain ⟨h1, h2, h3, h4, h5, h6, h7, h8, h9⟩ := hh'
    have hli := h5 i h1
    have ecl : (nI g).toNatClampNeg = g := nI_clamp (by omega)
    have ecl2 : (nI (ln i)).toNatClampNeg = ln i := nI_clamp (by omega)
    have e13 : a13 g = nI (ln i) := by
      rw [m13 g h2, h3]
      rfl
    have n12 : fd_ma G (upd a12 g (nI (ln i))) (fd_up tk g (some (ln i))) := fd_ma_up m12 rfl
    have n14 : fd_ma T (upd a14 (ln i) (nI g)) (fd_up gv (ln i) (some g)) := fd_ma_up m14 rfl
    have key : wX_shift_3_4 post cp pr tn gn le pk (d + 1) (a14 (ln i)) (nI (x + 1)) a1 a2 a3 a4 a5 a6 a7 a8 a9 a10 a11 (upd a12 g (nI (ln i))) a13 (upd a14 (ln i) (nI g)) a15 a16 a17 := by
      rcases h9 i (Nat.le_refl i) with ⟨z, hn⟩ | ⟨g', i', hi', hv, hrf, hS⟩
      · have ev : a14 (ln i) = -1 := by
          rw [m14 _ hli, hn]
          rfl
        rw [ev]
        have P := H _ _ _ _ n12 n14 (fd_hole_end hh hn) (fd_ext_step hext (Or.inl (by rw [z, hl]))) (by rw [z, hl, fd_us]; exact Option.some_ne_none g)
        exact br_c (fun _ => P) (fun _ => br_t (by decide) P)
      · have ev : a14 (ln i) = nI g' := by
          rw [m14 _ hli, hv]
          rfl
        rw [ev]
        exact ih i' g' (x + 1) _ _ _ _ (by omega) (by omega) n12 n14 (fd_hole_step hh hi' hv hrf hS) (fd_ext_step hext (Or.inr (fd_nos hv)))
    refine br_f (nI_ge (b := 24) (by omega) (by decide)) (br_f (nI_pos (by omega)) ⟨pk_in g 24 (by omega), ?_⟩)
    rw [ecl, e13]
    refine nm_e ⟨pk_in (ln i) 24 (by omega), ?_⟩
    rw [ecl2, fd_nb (k := ln i) (by omega), fd_nb (k := g) (by omega)]
    exact nm_e ⟨pk_in g 24 (by omega), nm_e ⟨pk_in (ln i) 24 (by omega), nm_e (nm_r (nI_1 x) key)⟩⟩
theorem fd_shift_v3 {post : St2 → Prop} {cp pr tn gn le pk : Int32} {a1 a2 a3 a4 a5 a6 a7 a8 a9 a10 a11 a12 a13 a14 a15 a16 a17 : Nat → Int32} {T G e r i g : Nat} {S : Nat → Nat → Prop} {rf tk gv : Nat → Option Nat} {ln : Nat → Nat}
    (hT : T ≤ 24) (hG : G ≤ 24) (he : e ≤ 23) (m12 : fd_ma G a12 tk) (m13 : fd_ma G a13 rf) (m14 : fd_ma T a14 gv) (hl : ln 0 = r) (hh : fd_hole T G S rf ln e tk gv i g)
    (H : ∀ b12 b14 tk' gv', fd_ma G b12 tk' → fd_ma T b14 gv' → fd_mat T G S tk' gv' → fd_ext gv gv' r → gv' r ≠ none → post (cp, pr, tn, gn, le, pk, a1, a2, a3, a4, a5, a6, a7, a8, a9, a10, a11, b12, a13, b14, a15, a16, a17)) : wpX_shift_3 post (cp, pr, tn, gn, le, pk, a1, a2, a3, a4, a5, a6, a7, a8, a9, a10, a11, a12, a13, a14, a15, a16, a17) (nI g) :=
  Exists.intro (i + 1 + 1) (fd_shift_4_v3 hT hG m13 hl H (i + 1) i g 0 tk gv a12 a14 (by omega) (by have := hh.1; omega) m12 m14 hh fd_ext_0)
theorem fd_look_2_v3 {post : Int32 → St2 → Prop} {cp pr pk : Int32} {a1 a2 a3 a4 a5 a6 a7 a8 a9 a10 a11 a12 a14 a16 a17 : Nat → Int32} {T G r c k0 : Nat} {tk gv : Nat → Option Nat}
    (hT : T ≤ 23) (hG : G ≤ 24) (m12 : fd_ma G a12 tk) (hm : fd_mat T G (fd_S a8 a9 a10 a11) tk gv)
    (H1 : ∀ (e : Nat) (ln : Nat → Nat) (rf : Nat → Option Nat) (b13 b15 : Nat → Int32), fd_bfs T G (fd_S a8 a9 a10 a11) tk gv rf ln e r → c < e → (∀ i g, i < c + 1 → g < G → fd_S a8 a9 a10 a11 (ln i) g → rf g ≠ none) → fd_ma G b13 rf → (∀ j, j < e → b15 j = nI (ln j)) → post (-1) (cp, pr, nI T, nI G, nI e, pk, a1, a2, a3, a4, a5, a6, a7, a8, a9, a10, a11, a12, b13, a14, b15, a16, a17))
    (H2 : ∀ (g e : Nat) (ln : Nat → Nat) (rf : Nat → Option Nat) (b13 b15 : Nat → Int32), g < G → tk g = none → fd_bfs T G (fd_S a8 a9 a10 a11) tk gv rf ln e r → c < e → fd_S a8 a9 a10 a11 (ln c) g → fd_ma G b13 (fd_up rf g (some (ln c))) → post (nI g) (cp, pr, nI T, nI G, nI e, pk, a1, a2, a3, a4, a5, a6, a7, a8, a9, a10, a11, a12, b13, a14, b15, a16, a17)) :
    ∀ (d g e : Nat) (ln : Nat → Nat) (rf : Nat → Option Nat) (a13 a15 : Nat → Int32), g + d = G → fd_bfs T G (fd_S a8 a9 a10 a11) tk gv rf ln e r → c < e → ln c = k0 →
      (∀ i g', i < c → g' < G → fd_S a8 a9 a10 a11 (ln i) g' → rf g' ≠ none) → (∀ g', g' < g → fd_S a8 a9 a10 a11 k0 g' → rf g' ≠ none) → fd_ma G a13 rf → (∀ j, j < e → a15 j = nI (ln j)) →
      wX_look_3_2 post (nI k0) cp pr (nI T) (nI G) pk (d + 1) (nI g) (nI e) a1 a2 a3 a4 a5 a6 a7 a8 a9 a10 a11 a12 a13 a14 a15 a16 a17 := by
  intro d
  induction d with
  | zero =>
    intro g e ln rf a13 a15 hg hb hc hk hd1 hd2 m13 m15
    refine br_t (nI_le (by omega) (by omega)) (H1 e ln rf a13 a15 hb hc (fun i g' hi hg' hs => ?_) m13 m15)
    by_cases ei : i = c
    · rw [ei, hk] at hs
      exact hd2 g' (by omega) hs
    · exact hd1 i g' (by omega) hg' hs
  | succ d ih =>
    intro g e ln rf a13 a15 hg hb hc hk hd1 hd2 m13 m15
    have hgG : g < G := by omega
    have heT := fd_bfs_e hb
    have hk0 : k0 < T := by
      rw [← hk]
      exact hb.2.2.2.1 c hc
    have ecl : (nI g).toNatClampNeg = g := nI_clamp (by omega)
    refine br_f (nI_ge (by omega) (by omega)) ⟨pk_in g 24 (by omega), ?_⟩
    rw [ecl]
    cases hr : rf g with
    | some k =>
      have hb7 := (hb.2.2.2.2.2.2 g k hgG hr).1
      have e13 : a13 g = nI k := by
        rw [m13 g hgG, hr]
        rfl
      refine br_t (by rw [e13]; exact nI_pos' (by omega)) (nm_r (nI_1 g) (ih (g + 1) e ln rf a13 a15 (by omega) hb hc hk hd1 (fun g' hg' hs => ?_) m13 m15))
      by_cases eg : g' = g
      · rw [eg]
        exact fd_nos hr
      · exact hd2 g' (by omega) hs
    | none =>
      have e13 : a13 g = -1 := by
        rw [m13 g hgG, hr]
        rfl
      refine br_f (by rw [e13]; decide) (fd_suits (by omega) (by omega) (fun hs => ?_) (fun hs => ?_))
      · refine br_t rfl (nm_r (nI_1 g) (ih (g + 1) e ln rf a13 a15 (by omega) hb hc hk hd1 (fun g' hg' hs' => ?_) m13 m15))
        by_cases eg : g' = g
        · rw [eg] at hs'
          exact absurd hs' hs
        · exact hd2 g' (by omega) hs'
      · refine br_f (by decide) ⟨pk_in g 24 (by omega), ?_⟩
        rw [fd_nb (k := k0) (by omega)]
        have n13 : fd_ma G (upd a13 g (nI k0)) (fd_up rf g (some (ln c))) := fd_ma_up m13 (by rw [hk]; rfl)
        refine nm_e ⟨pk_in g 24 (by omega), ?_⟩
        cases ht : tk g with
        | some k =>
          have hkT := (hm.1 g k hgG ht).1
          have e12 : a12 g = nI k := by
            rw [m12 g hgG, ht]
            rfl
          rw [e12]
          refine br_t (nI_pos' (by omega)) (br_f (nI_ge (b := 24) (by omega) (by decide)) ⟨pk_in g 24 (by omega), pk_in e 24 (by omega), ?_⟩)
          rw [vp_nar_byte, fd_nb (k := k) (by omega), nI_clamp (n := e) (by omega)]
          refine nm_e (nm_r (nI_1 e) (nm_r (nI_1 g) (ih (g + 1) (e + 1) (fd_up ln e k) (fd_up rf g (some (ln c))) _ _ (by omega) (fd_bfs_add hm hb hgG hr ht hc (by rw [hk]; exact hs)) (by omega) (by rw [fd_un (show c ≠ e by omega)]; exact hk) (fun i g' hi hg' hs' => ?_) (fun g' hg' hs' => ?_) n13 (fun j hj => ?_))))
          · rw [fd_un (show i ≠ e by omega)] at hs'
            by_cases eg : g' = g
            · rw [eg, fd_us]
              exact Option.some_ne_none _
            · rw [fd_un eg]
              exact hd1 i g' hi hg' hs'
          · by_cases eg : g' = g
            · rw [eg, fd_us]
              exact Option.some_ne_none _
            · rw [fd_un eg]
              exact hd2 g' (by omega) hs'
          · by_cases ej : j = e
            · rw [ej, pk_us, fd_us]
            · rw [pk_un ej, fd_un ej]
              exact m15 j (by omega)
        | none =>
          have e12 : a12 g = -1 := by
            rw [m12 g hgG, ht]
            rfl
          exact br_f (by rw [e12]; decide) (H2 g e ln rf _ a15 hgG ht hb hc (by rw [hk]; exact hs) n13)
theorem fd_serve_40_v3 {post : Int32 → St2 → Prop} {cp pr pk : Int32} {a1 a2 a3 a4 a5 a6 a7 a8 a9 a10 a11 a12 a14 a16 a17 : Nat → Int32} {T G r : Nat} {tk gv : Nat → Option Nat}
    (hT : T ≤ 22) (hG : G ≤ 24) (m12 : fd_ma G a12 tk) (m14 : fd_ma T a14 gv) (hm : fd_mat T G (fd_S a8 a9 a10 a11) tk gv)
    (H0 : ∀ le b13 b15, ¬ fd_PM T G (fd_S a8 a9 a10 a11) → post 0 (cp, pr, nI T, nI G, le, pk, a1, a2, a3, a4, a5, a6, a7, a8, a9, a10, a11, a12, b13, a14, b15, a16, a17))
    (H1 : ∀ le b12 b13 b14 b15 tk' gv', fd_ma G b12 tk' → fd_ma T b14 gv' → fd_mat T G (fd_S a8 a9 a10 a11) tk' gv' → fd_ext gv gv' r → gv' r ≠ none → post 1 (cp, pr, nI T, nI G, le, pk, a1, a2, a3, a4, a5, a6, a7, a8, a9, a10, a11, b12, b13, b14, b15, a16, a17)) :
    ∀ (d c e : Nat) (ln : Nat → Nat) (rf : Nat → Option Nat) (a13 a15 : Nat → Int32), c + d = 24 → c ≤ e → fd_bfs T G (fd_S a8 a9 a10 a11) tk gv rf ln e r →
      (∀ i g, i < c → g < G → fd_S a8 a9 a10 a11 (ln i) g → rf g ≠ none) → fd_ma G a13 rf → (∀ j, j < e → a15 j = nI (ln j)) →
      wX_serve_3_40 post (d + 1) (-1) (nI c) cp pr (nI T) (nI G) (nI e) pk a1 a2 a3 a4 a5 a6 a7 a8 a9 a10 a11 a12 a13 a14 a15 a16 a17 := by
  intro d
  induction d with
  | zero =>
    intro c e ln rf a13 a15 hcd hce hb
    have := fd_bfs_e hb
    exact absurd hce (by omega)
  | succ d ih =>
    intro c e ln rf a13 a15 hcd hce hb hd m13 m15
    have heT := fd_bfs_e hb
    by_cases hc : e ≤ c
    · exact br_t (nI_le hc (by omega)) (br_f (by decide) (H0 (nI e) a13 a15 (fd_fail hm hb (fun i g hi => hd i g (by omega)))))
    · refine br_f (nI_ge (by omega) (by omega)) (br_f (nI_ge (b := 24) (by omega) (by decide)) (br_f (by decide) ⟨pk_in c 24 (by omega), ?_⟩))
      rw [nI_clamp (n := c) (by omega), m15 c (by omega)]
      refine Exists.intro (G + 1) ?_
      refine fd_look_2_v3 (k0 := ln c) (c := c) (r := r) (by omega) hG m12 hm ?_ ?_ G 0 e ln rf a13 a15 (by omega) hb (by omega) rfl hd (fun g' h => absurd h (by omega)) m13 m15
      · intro e' ln' rf' b13 b15 hb' hc' hd' m13' m15'
        exact nm_r (nI_1 c) (ih (c + 1) e' ln' rf' b13 b15 (by omega) (by omega) hb' hd' m13' m15')
      · intro g e' ln' rf' b13 b15 hg ht hb' hc' hS m13'
        have heT' := fd_bfs_e hb'
        have P : wX_serve_3_75 post (nI g) cp pr (nI T) (nI G) (nI e') pk a1 a2 a3 a4 a5 a6 a7 a8 a9 a10 a11 a12 b13 a14 b15 a16 a17 := by
          refine br_t (nI_pos' (by omega)) ?_
          refine fd_shift_v3 (T := T) (G := G) (S := fd_S a8 a9 a10 a11) (r := r) (e := e') (i := c) (by omega) hG (by omega) m12 m13' m14 hb'.2.1 (fd_hole_0 hm hb' hg ht hc' hS) ?_
          intro b12 b14 tk' gv' q1 q2 q3 q4 q5
          exact H1 (nI e') b12 b13 b14 b15 tk' gv' q1 q2 q3 q4 q5
        refine nm_r (nI_1 c) ?_
        exact br_c (fun _ => P) (fun _ => br_c (fun _ => P) (fun _ => br_t (nI_pos' (by omega)) P))
theorem fd_serve_v3 {post : Int32 → St2 → Prop} {cp pr le pk : Int32} {a1 a2 a3 a4 a5 a6 a7 a8 a9 a10 a11 a12 a13 a14 a15 a16 a17 : Nat → Int32} {T G r : Nat} {tk gv : Nat → Option Nat}
    (hT : T ≤ 22) (hG : G ≤ 24) (hr : r < T) (hgr : gv r = none) (m12 : fd_ma G a12 tk) (m14 : fd_ma T a14 gv) (hm : fd_mat T G (fd_S a8 a9 a10 a11) tk gv)
    (H0 : ∀ le b13 b15, ¬ fd_PM T G (fd_S a8 a9 a10 a11) → post 0 (cp, pr, nI T, nI G, le, pk, a1, a2, a3, a4, a5, a6, a7, a8, a9, a10, a11, a12, b13, a14, b15, a16, a17))
    (H1 : ∀ le b12 b13 b14 b15 tk' gv', fd_ma G b12 tk' → fd_ma T b14 gv' → fd_mat T G (fd_S a8 a9 a10 a11) tk' gv' → fd_ext gv gv' r → gv' r ≠ none → post 1 (cp, pr, nI T, nI G, le, pk, a1, a2, a3, a4, a5, a6, a7, a8, a9, a10, a11, b12, b13, b14, b15, a16, a17)) :
    wpX_serve_3 post (cp, pr, nI T, nI G, le, pk, a1, a2, a3, a4, a5, a6, a7, a8, a9, a10, a11, a12, a13, a14, a15, a16, a17) (nI r) := by
  have main : ∀ (d g : Nat) (a13 : Nat → Int32), g + d = G → fd_ma g a13 (fun _ => none) → wX_serve_3_2 post (nI r) cp pr (nI T) (nI G) le pk (d + 1) (nI g) a1 a2 a3 a4 a5 a6 a7 a8 a9 a10 a11 a12 a13 a14 a15 a16 a17 := by
    intro d
    induction d with
    | zero =>
      intro g a13 hg m13
      refine br_t (nI_le (by omega) (by omega)) ?_
      rw [fd_nb (k := r) (by omega)]
      refine nm_e (Exists.intro (24 + 1) ?_)
      exact fd_serve_40_v3 hT hG m12 m14 hm H0 H1 24 0 1 (fun _ => r) (fun _ => none) a13 _ (by omega) (by omega) (fd_bfs_0 hr hgr rfl (fun _ _ => rfl)) (fun i g h => absurd h (by omega)) (by rw [show G = g by omega]; exact m13) (fun j hj => by rw [show j = 0 by omega, pk_us])
    | succ d ih =>
      intro g a13 hg m13
      refine br_f (nI_ge (by omega) (by omega)) ⟨pk_in g 24 (by omega), ?_⟩
      rw [nI_clamp (n := g) (by omega)]
      refine nm_e (nm_r (nI_1 g) (ih (g + 1) _ (by omega) (fun j hj => ?_)))
      by_cases e : j = g
      · rw [e, pk_us]
        rfl
      · rw [pk_un e]
        exact m13 j (by omega)
  exact Exists.intro (G + 1) (main G 0 a13 (by omega) (fun j hj => absurd hj (by omega)))
theorem fd_unm_50_v3 {post : Int32 → St2 → Prop} {cp pr pk : Int32} {a1 a2 a3 a4 a5 a6 a7 a8 a9 a10 a11 a16 a17 : Nat → Int32} {T G : Nat} (hT : T ≤ 22) (hG : G ≤ 24)
    (H : ∀ r le b12 b13 b14 b15, (r = 0 ↔ fd_PM T G (fd_S a8 a9 a10 a11)) → post r (cp, pr, nI T, nI G, le, pk, a1, a2, a3, a4, a5, a6, a7, a8, a9, a10, a11, b12, b13, b14, b15, a16, a17)) :
    ∀ (d k c : Nat) (le : Int32) (a12 a13 a14 a15 : Nat → Int32) (tk gv : Nat → Option Nat), k + d = T → c ≤ k → fd_ma G a12 tk → fd_ma T a14 gv → fd_mat T G (fd_S a8 a9 a10 a11) tk gv → (∀ j, k ≤ j → gv j = none) →
      (c = 0 → ∀ j, j < k → gv j ≠ none) → (0 < c → ¬ fd_PM T G (fd_S a8 a9 a10 a11)) → wX_unmatched_3_50 post (d + 1) (nI c) (nI k) cp pr (nI T) (nI G) le pk a1 a2 a3 a4 a5 a6 a7 a8 a9 a10 a11 a12 a13 a14 a15 a16 a17 := by
  intro d
  induction d with
  | zero =>
    intro k c le a12 a13 a14 a15 tk gv hk hc m12 m14 hm hgv h0 h1
    refine br_t (nI_le (by omega) (by omega)) (H (nI c) le a12 a13 a14 a15 ⟨fun z => ?_, fun hp => ?_⟩)
    · have z' : nI c = nI 0 := z
      have hc0 : c = 0 := (nI_eq (by omega) (by omega)).mp z'
      exact fd_PM_of hm (fun j hj => h0 hc0 j (by omega))
    · rcases Nat.eq_zero_or_pos c with z | z
      · rw [z]
        rfl
      · exact absurd hp (h1 z)
  | succ d ih =>
    intro k c le a12 a13 a14 a15 tk gv hk hc m12 m14 hm hgv h0 h1
    refine br_f (nI_ge (by omega) (by omega)) ?_
    refine fd_serve_v3 hT hG (show k < T by omega) (hgv k (Nat.le_refl k)) m12 m14 hm ?_ ?_
    · intro le' b13 b15 hn
      exact br_t rfl (nm_r (nI_1 c) (nm_r (nI_1 k) (ih (k + 1) (c + 1) le' a12 b13 a14 b15 tk gv (by omega) (by omega) m12 m14 hm (fun j hj => hgv j (by omega)) (fun z => absurd z (by omega)) (fun _ => hn))))
    · intro le' b12 b13 b14 b15 tk' gv' q1 q2 q3 q4 q5
      refine br_f (by decide) (nm_r (nI_1 k) (ih (k + 1) c le' b12 b13 b14 b15 tk' gv' (by omega) (by omega) q1 q2 q3 (fun j hj => q4.2 j (by omega) (hgv j (by omega))) (fun z j hj => ?_) h1))
      by_cases e : j = k
      · rw [e]
        exact q5
      · exact q4.1 j (h0 z j (by omega))
theorem fd_unmatched_v3 {post : Int32 → St2 → Prop} {cp pr le pk : Int32} {a1 a2 a3 a4 a5 a6 a7 a8 a9 a10 a11 a12 a13 a14 a15 a16 a17 : Nat → Int32} {T G : Nat} (hT : T ≤ 22) (hG : G ≤ 24)
    (H : ∀ r le b12 b13 b14 b15, (r = 0 ↔ fd_PM T G (fd_S a8 a9 a10 a11)) → post r (cp, pr, nI T, nI G, le, pk, a1, a2, a3, a4, a5, a6, a7, a8, a9, a10, a11, b12, b13, b14, b15, a16, a17)) :
    wpX_unmatched_3 post (cp, pr, nI T, nI G, le, pk, a1, a2, a3, a4, a5, a6, a7, a8, a9, a10, a11, a12, a13, a14, a15, a16, a17) := by
  have w25 : ∀ (d k : Nat) (a12 a14 : Nat → Int32), k + d = T → fd_ma G a12 (fun _ => none) → fd_ma k a14 (fun _ => none) → wX_unmatched_3_25 post cp pr (nI T) (nI G) le pk (d + 1) (nI k) a1 a2 a3 a4 a5 a6 a7 a8 a9 a10 a11 a12 a13 a14 a15 a16 a17 := by
    intro d
    induction d with
    | zero =>
      intro k a12 a14 hk m12 m14
      refine br_t (nI_le (by omega) (by omega)) (Exists.intro (T + 1) ?_)
      exact fd_unm_50_v3 hT hG H T 0 0 le a12 a13 a14 a15 (fun _ => none) (fun _ => none) (by omega) (by omega) m12 (by rw [show T = k by omega]; exact m14) ⟨fun g k _ h => absurd rfl (fd_nos h), fun k g _ h => absurd rfl (fd_nos h)⟩ (fun _ _ => rfl) (fun _ j hj => absurd hj (by omega)) (fun z => absurd z (by omega))
    | succ d ih =>
      intro k a12 a14 hk m12 m14
      refine br_f (nI_ge (by omega) (by omega)) ⟨pk_in k 24 (by omega), ?_⟩
      rw [nI_clamp (n := k) (by omega)]
      refine nm_e (nm_r (nI_1 k) (ih (k + 1) a12 _ (by omega) m12 (fun j hj => ?_)))
      by_cases e : j = k
      · rw [e, pk_us]
        rfl
      · rw [pk_un e]
        exact m14 j (by omega)
  have w2 : ∀ (d g : Nat) (a12 : Nat → Int32), g + d = G → fd_ma g a12 (fun _ => none) → wX_unmatched_3_2 post cp pr (nI T) (nI G) le pk (d + 1) (nI g) a1 a2 a3 a4 a5 a6 a7 a8 a9 a10 a11 a12 a13 a14 a15 a16 a17 := by
    intro d
    induction d with
    | zero =>
      intro g a12 hg m12
      exact br_t (nI_le (by omega) (by omega)) (Exists.intro (T + 1) (w25 T 0 a12 a14 (by omega) (by rw [show G = g by omega]; exact m12) (fun j hj => absurd hj (by omega))))
    | succ d ih =>
      intro g a12 hg m12
      refine br_f (nI_ge (by omega) (by omega)) ⟨pk_in g 24 (by omega), ?_⟩
      rw [nI_clamp (n := g) (by omega)]
      refine nm_e (nm_r (nI_1 g) (ih (g + 1) _ (by omega) (fun j hj => ?_)))
      by_cases e : j = g
      · rw [e, pk_us]
        rfl
      · rw [pk_un e]
        exact m12 j (by omega)
  exact Exists.intro (G + 1) (w2 G 0 a12 (by omega) (fun j hj => absurd hj (by omega)))
theorem fd_addGiver_v3 {post : St2 → Prop} {cp pr tn le pk : Int32} {a1 a2 a3 a4 a5 a6 a7 a8 a9 a10 a11 a12 a13 a14 a15 a16 a17 : Nat → Int32} {g : Nat} {x y x' y' : Int32} (hg : g < 24) (hx : x.toInt8.toInt32 = x') (hy : y.toInt8.toInt32 = y') (H : post (cp, pr, tn, nI (g + 1), le, pk, a1, a2, a3, a4, a5, a6, a7, a8, a9, upd a10 g x', upd a11 g y', a12, a13, a14, a15, a16, a17)) : wpX_addGiver_3 post (cp, pr, tn, nI g, le, pk, a1, a2, a3, a4, a5, a6, a7, a8, a9, a10, a11, a12, a13, a14, a15, a16, a17) x y := by
  have e1 : (nI g).toNatClampNeg = g := nI_clamp (by omega)
  unfold wpX_addGiver_3
  dsimp only
  rw [e1, hx, hy]
  exact br_f (nI_ge (b := 24) (by omega) (by decide)) ⟨pk_in g 24 hg, nm_e ⟨pk_in g 24 hg, nm_e (nm_r (nI_1 g) H)⟩⟩
theorem fd_addTaker_v3 {post : St2 → Prop} {cp pr gn le pk : Int32} {a1 a2 a3 a4 a5 a6 a7 a8 a9 a10 a11 a12 a13 a14 a15 a16 a17 : Nat → Int32} {g : Nat} {x y x' y' : Int32} (hg : g < 24) (hx : x.toInt8.toInt32 = x') (hy : y.toInt8.toInt32 = y') (H : post (cp, pr, nI (g + 1), gn, le, pk, a1, a2, a3, a4, a5, a6, a7, upd a8 g x', upd a9 g y', a10, a11, a12, a13, a14, a15, a16, a17)) : wpX_addTaker_3 post (cp, pr, nI g, gn, le, pk, a1, a2, a3, a4, a5, a6, a7, a8, a9, a10, a11, a12, a13, a14, a15, a16, a17) x y := by
  have e1 : (nI g).toNatClampNeg = g := nI_clamp (by omega)
  unfold wpX_addTaker_3
  dsimp only
  rw [e1, hx, hy]
  exact br_f (nI_ge (b := 24) (by omega) (by decide)) ⟨pk_in g 24 hg, nm_e ⟨pk_in g 24 hg, nm_e (nm_r (nI_1 g) H)⟩⟩
theorem fd_gather_51_v3 {post : St2 → Prop} {pr le pk : Int32} {a1 a2 a3 a4 a5 a6 a7 a12 a13 a14 a15 a16 a17 : Nat → Int32} {c : Nat} {st : Nat → Nat} (hc : c ≤ 5) (hst : ∀ s, s < 4 → st s ≤ 3)
    (s2 : ∀ i, i < c → fd_set (a2 i)) (s4 : ∀ i, i < c → fd_set (a4 i)) (s6 : ∀ i, i < c → fd_set (a6 i)) (s7 : ∀ i, i < c → fd_set (a7 i))
    (H : ∀ b8 b9 b10 b11, fd_g0 st (fd_pre st 4) b10 b11 → fd_g1 c (fd_B pr) st a2 a4 a6 a7 (fd_pos (fd_B pr) c) b8 b9 b10 b11 → post (nI c, pr, nI (fd_pos (fd_B pr) c), nI (fd_pre st 4 + fd_pos (fd_B pr) c), le, pk, a1, a2, a3, a4, a5, a6, a7, b8, b9, b10, b11, a12, a13, a14, a15, a16, a17)) :
    ∀ (d i : Nat) (a8 a9 a10 a11 : Nat → Int32), i + d = c → fd_g0 st (fd_pre st 4) a10 a11 → fd_g1 c (fd_B pr) st a2 a4 a6 a7 (fd_pos (fd_B pr) i) a8 a9 a10 a11 →
      wX_gather_3_51 post (d + 1) (nI i) (nI c) pr (nI (fd_pos (fd_B pr) i)) (nI (fd_pre st 4 + fd_pos (fd_B pr) i)) le pk a1 a2 a3 a4 a5 a6 a7 a8 a9 a10 a11 a12 a13 a14 a15 a16 a17 := by
  have hpre := fd_pre4 hst
  intro d
  induction d with
  | zero =>
    intro i a8 a9 a10 a11 hi q0 q1
    have e : i = c := by omega
    rw [e] at q1 ⊢
    exact br_t (nI_le (Nat.le_refl c) (by omega)) (H a8 a9 a10 a11 q0 q1)
  | succ d ih =>
    intro i a8 a9 a10 a11 hi q0 q1
    have hic : i < c := by omega
    have hpi := fd_pos_le (fd_B pr) i
    have ecl : (nI i).toNatClampNeg = i := nI_clamp (by omega)
    refine br_f (nI_ge hic (by omega)) (br_c (fun z => ?_) (fun z => ?_))
    · have hf := fd_B_f z
      refine nm_r (nI_1 i) ?_
      have t := ih (i + 1) a8 a9 a10 a11 (by omega) q0 (by rw [fd_pos_f hf]; exact q1)
      rw [fd_pos_f hf] at t
      exact t
    · have ht := fd_B_t z
      rw [ecl]
      refine ⟨pk_in i 8 (by omega), pk_in i 8 (by omega), ?_⟩
      refine fd_addGiver_v3 (by omega) (fd_set_by (s7 i hic)) (fd_set_by (s4 i hic)) ?_
      refine ⟨pk_in i 8 (by omega), pk_in i 8 (by omega), ?_⟩
      refine fd_addTaker_v3 (by omega) (fd_set_by (s6 i hic)) (fd_set_by (s2 i hic)) ?_
      refine nm_r (nI_1 i) ?_
      have hbk := fd_bk_pos c i hic ht
      have t := ih (i + 1) (upd a8 (fd_pos (fd_B pr) i) (a6 i)) (upd a9 (fd_pos (fd_B pr) i) (a2 i)) (upd a10 (fd_pre st 4 + fd_pos (fd_B pr) i) (a7 i)) (upd a11 (fd_pre st 4 + fd_pos (fd_B pr) i) (a4 i)) (by omega)
        (fun g hg => by rw [pk_un (by omega), pk_un (by omega)]; exact q0 g hg)
        (fun j hj => by
          rw [fd_pos_t ht] at hj
          by_cases ej : j = fd_pos (fd_B pr) i
          · rw [ej, pk_us, pk_us, pk_us, pk_us, hbk]
            exact ⟨rfl, rfl, rfl, rfl⟩
          · rw [pk_un ej, pk_un ej, pk_un (by omega), pk_un (by omega)]
            exact q1 j (by omega))
      rw [fd_pos_t ht, ← Nat.add_assoc] at t
      exact t
theorem fd_gather_19_v3 {post : St2 → Prop} {cp pr tn le pk : Int32} {a1 a2 a3 a4 a5 a6 a7 a8 a9 a12 a13 a14 a15 a16 a17 : Nat → Int32} {st : Nat → Nat} {s : Nat} {J : Int32 → Int32 → Int32 → Int32 → Int32 → Int32 → Int32 → (Nat → Int32) → (Nat → Int32) → (Nat → Int32) → (Nat → Int32) → (Nat → Int32) → (Nat → Int32) → (Nat → Int32) → (Nat → Int32) → (Nat → Int32) → (Nat → Int32) → (Nat → Int32) → (Nat → Int32) → (Nat → Int32) → (Nat → Int32) → (Nat → Int32) → (Nat → Int32) → (Nat → Int32) → Prop}
    (hs : s < 4) (hst : ∀ s, s < 4 → st s ≤ 3) (h5 : a5 s = nI (st s))
    (H : ∀ b10 b11, fd_g0 st (fd_pre st (s + 1)) b10 b11 → J (nI (s + 1)) cp pr tn (nI (fd_pre st (s + 1))) le pk a1 a2 a3 a4 a5 a6 a7 a8 a9 b10 b11 a12 a13 a14 a15 a16 a17) :
    ∀ (d k : Nat) (a10 a11 : Nat → Int32), k + d = st s → fd_g0 st (fd_pre st s + k) a10 a11 → wX_gather_3_19 post J (nI s) (d + 1) (nI k) cp pr tn (nI (fd_pre st s + k)) le pk a1 a2 a3 a4 a5 a6 a7 a8 a9 a10 a11 a12 a13 a14 a15 a16 a17 := by
  have hpre := fd_pre4 hst
  have hss := hst s hs
  have hp1 : fd_pre st (s + 1) = fd_pre st s + st s := rfl
  have hp2 := fd_pre_mono st (s + 1) (4 - (s + 1))
  rw [show s + 1 + (4 - (s + 1)) = 4 by omega] at hp2
  have ecl : (nI s).toNatClampNeg = s := nI_clamp (by omega)
  intro d
  induction d with
  | zero =>
    intro k a10 a11 hk q0
    have e : fd_pre st s + k = fd_pre st (s + 1) := by omega
    rw [e] at q0 ⊢
    refine And.intro (pk_in s 4 hs) ?_
    rw [ecl, h5]
    exact br_t (nI_le (by omega) (by omega)) (nm_r (nI_1 s) (H a10 a11 q0))
  | succ d ih =>
    intro k a10 a11 hk q0
    refine And.intro (pk_in s 4 hs) ?_
    rw [ecl, h5]
    refine br_f (nI_ge (by omega) (by omega)) ?_
    refine fd_addGiver_v3 (x' := fd_one s) (y' := 0) (by omega) rfl (by decide) ?_
    refine nm_r (nI_1 k) ?_
    refine ih (k + 1) _ _ (by omega) (fun g hg => ?_)
    by_cases eg : g = fd_pre st s + k
    · rw [eg, pk_us, pk_us, fd_sg_at (s := s) (by omega) (by omega) 4 hs]
      exact ⟨rfl, rfl⟩
    · rw [pk_un eg, pk_un eg]
      exact q0 g (by omega)
theorem fd_gather_v3 {post : St2 → Prop} {pr tn gn le pk : Int32} {a1 a2 a3 a4 a5 a6 a7 a8 a9 a10 a11 a12 a13 a14 a15 a16 a17 : Nat → Int32} {c : Nat} {st : Nat → Nat} (hc : c ≤ 5) (hst : ∀ s, s < 4 → st s ≤ 3) (h5 : ∀ s, s < 4 → a5 s = nI (st s))
    (s2 : ∀ i, i < c → fd_set (a2 i)) (s4 : ∀ i, i < c → fd_set (a4 i)) (s6 : ∀ i, i < c → fd_set (a6 i)) (s7 : ∀ i, i < c → fd_set (a7 i))
    (H : ∀ b8 b9 b10 b11, fd_g0 st (fd_pre st 4) b10 b11 → fd_g1 c (fd_B pr) st a2 a4 a6 a7 (fd_pos (fd_B pr) c) b8 b9 b10 b11 → post (nI c, pr, nI (fd_pos (fd_B pr) c), nI (fd_pre st 4 + fd_pos (fd_B pr) c), le, pk, a1, a2, a3, a4, a5, a6, a7, b8, b9, b10, b11, a12, a13, a14, a15, a16, a17)) :
    wpX_gather_3 post (nI c, pr, tn, gn, le, pk, a1, a2, a3, a4, a5, a6, a7, a8, a9, a10, a11, a12, a13, a14, a15, a16, a17) := by
  have main : ∀ (d s : Nat) (a10 a11 : Nat → Int32), s + d = 4 → fd_g0 st (fd_pre st s) a10 a11 → wX_gather_3_12 post (d + 1) (nI s) (nI c) pr (nI 0) (nI (fd_pre st s)) le pk a1 a2 a3 a4 a5 a6 a7 a8 a9 a10 a11 a12 a13 a14 a15 a16 a17 := by
    intro d
    induction d with
    | zero =>
      intro s a10 a11 hs q0
      have e : s = 4 := by omega
      rw [e] at q0 ⊢
      refine br_t (nI_le (a := 4) (Nat.le_refl 4) (by decide)) (Exists.intro (c + 1) ?_)
      exact fd_gather_51_v3 hc hst s2 s4 s6 s7 H c 0 a8 a9 a10 a11 (by omega) q0 (fun j hj => absurd hj (Nat.not_lt_zero j))
    | succ d ih =>
      intro s a10 a11 hs q0
      have hs4 : s < 4 := by omega
      refine br_f (nI_ge (b := 4) hs4 (by decide)) (Exists.intro (st s + 1) ?_)
      exact fd_gather_19_v3 hs4 hst (h5 s hs4) (fun b10 b11 q => ih (s + 1) b10 b11 (by omega) q) (st s) 0 a10 a11 (by omega) q0
  exact Exists.intro (4 + 1) (main 4 0 a10 a11 (by omega) (fun g hg => absurd hg (Nat.not_lt_zero g)))
theorem fd_missing_v3 {post : Int32 → St2 → Prop} {pr tn gn le pk : Int32} {a1 a2 a3 a4 a5 a6 a7 a8 a9 a10 a11 a12 a13 a14 a15 a16 a17 : Nat → Int32} {c : Nat} {st : Nat → Nat} (hc : c ≤ 5) (hst : ∀ s, s < 4 → st s ≤ 3) (h5 : ∀ s, s < 4 → a5 s = nI (st s))
    (s2 : ∀ i, i < c → fd_set (a2 i)) (s4 : ∀ i, i < c → fd_set (a4 i)) (s6 : ∀ i, i < c → fd_set (a6 i)) (s7 : ∀ i, i < c → fd_set (a7 i))
    (H : ∀ r tn gn le a8 a9 a10 a11 a12 a13 a14 a15, (r = 0 ↔ fd_Q c (fd_B pr) st a2 a4 a6 a7 0 0 0) → post r (nI c, pr, tn, gn, le, pk, a1, a2, a3, a4, a5, a6, a7, a8, a9, a10, a11, a12, a13, a14, a15, a16, a17)) :
    wpX_missing_3 post (nI c, pr, tn, gn, le, pk, a1, a2, a3, a4, a5, a6, a7, a8, a9, a10, a11, a12, a13, a14, a15, a16, a17) := by
  have hpre := fd_pre4 hst
  have hpos := fd_pos_le (fd_B pr) c
  unfold wpX_missing_3
  dsimp only
  refine fd_gather_v3 hc hst h5 s2 s4 s6 s7 (fun b8 b9 b10 b11 q0 q1 => ?_)
  refine fd_unmatched_v3 (by omega) (by omega) (fun r le' b12 b13 b14 b15 hr => ?_)
  exact H r _ _ le' b8 b9 b10 b11 b12 b13 b14 b15 (hr.trans (fd_GQ (k := 0) q0 q1 (fun j h1 h2 => absurd h1 (by omega))))
end
section
/-! the walks of narrowPick and narrowBack -/
/-- the fixed part of a desk: room, stocks, the bookings' sets and times -/
def fd_W (c : Nat) (st : Nat → Nat) (a1 a2 a3 a4 a5 : Nat → Int32) : Prop :=
  c ≤ 5 ∧ (∀ s, s < 4 → st s ≤ 3) ∧ (∀ s, s < 4 → a5 s = nI (st s)) ∧ (∀ i, i < c → fd_set (a1 i)) ∧ (∀ i, i < c → fd_set (a2 i)) ∧ (∀ i, i < c → fd_set (a3 i)) ∧ (∀ i, i < c → fd_set (a4 i))
theorem fd_uu {f : Nat → Int32} {k : Nat} {x y : Int32} : upd (upd f k x) k y = upd f k y := by
  funext j
  by_cases e : j = k
  · rw [e, pk_us, pk_us]
  · rw [pk_un e, pk_un e, pk_un e]
theorem fd_ue {f : Nat → Int32} {k : Nat} : upd f k (f k) = f := by
  funext j
  by_cases e : j = k
  · rw [e, pk_us]
  · rw [pk_un e]
theorem fd_nPick_9 {post : Int32 → St2 → Prop} {pr pk : Int32} {a1 a2 a3 a4 a5 a6 a7 a16 a17 : Nat → Int32} {c i : Nat} {st : Nat → Nat} (w : fd_W c st a1 a2 a3 a4 a5) (s6 : ∀ i, i < c → fd_set (a6 i)) (s7 : ∀ i, i < c → fd_set (a7 i)) (hi : i < c)
    (hex : ∃ s, s < 4 ∧ fd_B (a6 i) s = true ∧ fd_Q c (fd_B pr) st a2 a4 (upd a6 i (fd_one s)) a7 0 0 0)
    (H : ∀ (s : Nat) tn gn le a8 a9 a10 a11 a12 a13 a14 a15, s < 4 → fd_B (a6 i) s = true → fd_Q c (fd_B pr) st a2 a4 (upd a6 i (fd_one s)) a7 0 0 0 → (∀ s', s' < s → fd_B (a6 i) s' = true → ¬ fd_Q c (fd_B pr) st a2 a4 (upd a6 i (fd_one s')) a7 0 0 0) → post (nI s) (nI c, pr, tn, gn, le, pk, a1, a2, a3, a4, a5, upd a6 i (fd_one s), a7, a8, a9, a10, a11, a12, a13, a14, a15, a16, a17)) :
    ∀ (d s : Nat) (tn gn le : Int32) (b6 a8 a9 a10 a11 a12 a13 a14 a15 : Nat → Int32), s + d = 4 → (∀ x, upd b6 i x = upd a6 i x) → (∀ s', s' < s → fd_B (a6 i) s' = true → ¬ fd_Q c (fd_B pr) st a2 a4 (upd a6 i (fd_one s')) a7 0 0 0) →
      wX_narrowPick_9 post (nI i) (a6 i) (d + 1) (nI s) (nI c) pr tn gn le pk a1 a2 a3 a4 a5 b6 a7 a8 a9 a10 a11 a12 a13 a14 a15 a16 a17 := by
  obtain ⟨hc, hst, h5, s1, s2, s3, s4⟩ := w
  intro d
  induction d with
  | zero =>
    intro s tn gn le b6 a8 a9 a10 a11 a12 a13 a14 a15 hs hb hm
    obtain ⟨s', h1, h2, h3⟩ := hex
    exact absurd h3 (hm s' (by omega) h2)
  | succ d ih =>
    intro s tn gn le b6 a8 a9 a10 a11 a12 a13 a14 a15 hs hb hm
    have hs4 : s < 4 := by omega
    have ecl : (nI i).toNatClampNeg = i := nI_clamp (by omega)
    refine br_f (nI_ge (b := 4) hs4 (by decide)) (br_c (fun z => ?_) (fun z => ?_))
    · refine nm_r (nI_1 s) (ih (s + 1) tn gn le b6 a8 a9 a10 a11 a12 a13 a14 a15 (by omega) hb (fun s' h1 h2 => ?_))
      by_cases e : s' = s
      · rw [e, fd_B_f z] at h2
        exact absurd h2 (by decide)
      · exact hm s' (by omega) h2
    · rw [ecl]
      refine ⟨pk_in i 8 (by omega), nm_r (e' := upd a6 i (fd_one s)) (hb _) ?_⟩
      have t6 : ∀ j, j < c → fd_set (upd a6 i (fd_one s) j) := by
        intro j hj
        by_cases e : j = i
        · rw [e, pk_us]
          exact fd_set_one s hs4
        · rw [pk_un e]
          exact s6 j hj
      refine fd_missing_v2 hc hst h5 s2 s4 t6 s7 (fun r tn' gn' le' b8 b9 b10 b11 b12 b13 b14 b15 hr => ?_)
      refine br_c (fun y => H s tn' gn' le' b8 b9 b10 b11 b12 b13 b14 b15 hs4 (fd_B_t z) (hr.mp y) hm) (fun y => nm_r (nI_1 s) (ih (s + 1) tn' gn' le' _ b8 b9 b10 b11 b12 b13 b14 b15 (by omega) (fun x => fd_uu) (fun s' h1 h2 => ?_)))
      by_cases e : s' = s
      · rw [e]
        exact fun q => y (hr.mpr q)
      · exact hm s' (by omega) h2
theorem fd_nPick {post : Int32 → St2 → Prop} {pr tn gn le pk : Int32} {a1 a2 a3 a4 a5 a6 a7 a8 a9 a10 a11 a12 a13 a14 a15 a16 a17 : Nat → Int32} {c i : Nat} {st : Nat → Nat} (w : fd_W c st a1 a2 a3 a4 a5) (s6 : ∀ i, i < c → fd_set (a6 i)) (s7 : ∀ i, i < c → fd_set (a7 i)) (hi : i < c)
    (hex : ∃ s, s < 4 ∧ fd_B (a6 i) s = true ∧ fd_Q c (fd_B pr) st a2 a4 (upd a6 i (fd_one s)) a7 0 0 0)
    (H : ∀ (s : Nat) tn gn le a8 a9 a10 a11 a12 a13 a14 a15, s < 4 → fd_B (a6 i) s = true → fd_Q c (fd_B pr) st a2 a4 (upd a6 i (fd_one s)) a7 0 0 0 → (∀ s', s' < s → fd_B (a6 i) s' = true → ¬ fd_Q c (fd_B pr) st a2 a4 (upd a6 i (fd_one s')) a7 0 0 0) → post (nI s) (nI c, pr, tn, gn, le, pk, a1, a2, a3, a4, a5, upd a6 i (fd_one s), a7, a8, a9, a10, a11, a12, a13, a14, a15, a16, a17)) :
    wpX_narrowPick post (nI c, pr, tn, gn, le, pk, a1, a2, a3, a4, a5, a6, a7, a8, a9, a10, a11, a12, a13, a14, a15, a16, a17) (nI i) := by
  have hc := w.1
  have ecl : (nI i).toNatClampNeg = i := nI_clamp (by omega)
  unfold wpX_narrowPick
  dsimp only
  rw [ecl]
  exact ⟨pk_in i 8 (by omega), nm_e (Exists.intro (4 + 1) (fd_nPick_9 w s6 s7 hi hex H 4 0 tn gn le a6 a8 a9 a10 a11 a12 a13 a14 a15 (by omega) (fun x => rfl) (fun s' h => absurd h (by omega))))⟩
theorem fd_nBack_9 {post : Int32 → St2 → Prop} {pr pk : Int32} {a1 a2 a3 a4 a5 a6 a7 a16 a17 : Nat → Int32} {c i : Nat} {st : Nat → Nat} (w : fd_W c st a1 a2 a3 a4 a5) (s6 : ∀ i, i < c → fd_set (a6 i)) (s7 : ∀ i, i < c → fd_set (a7 i)) (hi : i < c)
    (hex : ∃ s, s < 4 ∧ fd_B (a7 i) s = true ∧ fd_Q c (fd_B pr) st a2 a4 a6 (upd a7 i (fd_one s)) 0 0 0)
    (H : ∀ (s : Nat) tn gn le a8 a9 a10 a11 a12 a13 a14 a15, s < 4 → fd_B (a7 i) s = true → fd_Q c (fd_B pr) st a2 a4 a6 (upd a7 i (fd_one s)) 0 0 0 → (∀ s', s' < s → fd_B (a7 i) s' = true → ¬ fd_Q c (fd_B pr) st a2 a4 a6 (upd a7 i (fd_one s')) 0 0 0) → post (nI s) (nI c, pr, tn, gn, le, pk, a1, a2, a3, a4, a5, a6, upd a7 i (fd_one s), a8, a9, a10, a11, a12, a13, a14, a15, a16, a17)) :
    ∀ (d s : Nat) (tn gn le : Int32) (b7 a8 a9 a10 a11 a12 a13 a14 a15 : Nat → Int32), s + d = 4 → (∀ x, upd b7 i x = upd a7 i x) → (∀ s', s' < s → fd_B (a7 i) s' = true → ¬ fd_Q c (fd_B pr) st a2 a4 a6 (upd a7 i (fd_one s')) 0 0 0) →
      wX_narrowBack_9 post (nI i) (a7 i) (d + 1) (nI s) (nI c) pr tn gn le pk a1 a2 a3 a4 a5 a6 b7 a8 a9 a10 a11 a12 a13 a14 a15 a16 a17 := by
  obtain ⟨hc, hst, h5, s1, s2, s3, s4⟩ := w
  intro d
  induction d with
  | zero =>
    intro s tn gn le b7 a8 a9 a10 a11 a12 a13 a14 a15 hs hb hm
    obtain ⟨s', h1, h2, h3⟩ := hex
    exact absurd h3 (hm s' (by omega) h2)
  | succ d ih =>
    intro s tn gn le b7 a8 a9 a10 a11 a12 a13 a14 a15 hs hb hm
    have hs4 : s < 4 := by omega
    have ecl : (nI i).toNatClampNeg = i := nI_clamp (by omega)
    refine br_f (nI_ge (b := 4) hs4 (by decide)) (br_c (fun z => ?_) (fun z => ?_))
    · refine nm_r (nI_1 s) (ih (s + 1) tn gn le b7 a8 a9 a10 a11 a12 a13 a14 a15 (by omega) hb (fun s' h1 h2 => ?_))
      by_cases e : s' = s
      · rw [e, fd_B_f z] at h2
        exact absurd h2 (by decide)
      · exact hm s' (by omega) h2
    · rw [ecl]
      refine ⟨pk_in i 8 (by omega), nm_r (e' := upd a7 i (fd_one s)) (hb _) ?_⟩
      have t7 : ∀ j, j < c → fd_set (upd a7 i (fd_one s) j) := by
        intro j hj
        by_cases e : j = i
        · rw [e, pk_us]
          exact fd_set_one s hs4
        · rw [pk_un e]
          exact s7 j hj
      refine fd_missing_v3 hc hst h5 s2 s4 s6 t7 (fun r tn' gn' le' b8 b9 b10 b11 b12 b13 b14 b15 hr => ?_)
      refine br_c (fun y => H s tn' gn' le' b8 b9 b10 b11 b12 b13 b14 b15 hs4 (fd_B_t z) (hr.mp y) hm) (fun y => nm_r (nI_1 s) (ih (s + 1) tn' gn' le' _ b8 b9 b10 b11 b12 b13 b14 b15 (by omega) (fun x => fd_uu) (fun s' h1 h2 => ?_)))
      by_cases e : s' = s
      · rw [e]
        exact fun q => y (hr.mpr q)
      · exact hm s' (by omega) h2
theorem fd_nBack {post : Int32 → St2 → Prop} {pr tn gn le pk : Int32} {a1 a2 a3 a4 a5 a6 a7 a8 a9 a10 a11 a12 a13 a14 a15 a16 a17 : Nat → Int32} {c i : Nat} {st : Nat → Nat} (w : fd_W c st a1 a2 a3 a4 a5) (s6 : ∀ i, i < c → fd_set (a6 i)) (s7 : ∀ i, i < c → fd_set (a7 i)) (hi : i < c)
    (hex : ∃ s, s < 4 ∧ fd_B (a7 i) s = true ∧ fd_Q c (fd_B pr) st a2 a4 a6 (upd a7 i (fd_one s)) 0 0 0)
    (H : ∀ (s : Nat) tn gn le a8 a9 a10 a11 a12 a13 a14 a15, s < 4 → fd_B (a7 i) s = true → fd_Q c (fd_B pr) st a2 a4 a6 (upd a7 i (fd_one s)) 0 0 0 → (∀ s', s' < s → fd_B (a7 i) s' = true → ¬ fd_Q c (fd_B pr) st a2 a4 a6 (upd a7 i (fd_one s')) 0 0 0) → post (nI s) (nI c, pr, tn, gn, le, pk, a1, a2, a3, a4, a5, a6, upd a7 i (fd_one s), a8, a9, a10, a11, a12, a13, a14, a15, a16, a17)) :
    wpX_narrowBack post (nI c, pr, tn, gn, le, pk, a1, a2, a3, a4, a5, a6, a7, a8, a9, a10, a11, a12, a13, a14, a15, a16, a17) (nI i) := by
  have hc := w.1
  have ecl : (nI i).toNatClampNeg = i := nI_clamp (by omega)
  unfold wpX_narrowBack
  dsimp only
  rw [ecl]
  exact ⟨pk_in i 8 (by omega), nm_e (Exists.intro (4 + 1) (fd_nBack_9 w s6 s7 hi hex H 4 0 tn gn le a7 a8 a9 a10 a11 a12 a13 a14 a15 (by omega) (fun x => rfl) (fun s' h => absurd h (by omega))))⟩
end
section
/-! the walks of plan, holds, pickupOf, returnOf, couldPick, couldReturn -/
/-- a known plan: one station each, all together good; the first booking's pick is the least -/
def fd_first (c : Nat) (B : Nat → Bool) (st : Nat → Nat) (a1 a2 a3 a4 : Nat → Int32) (n : Nat) (pp : Nat → Nat) : Prop :=
  ∀ i, i < n → B i = true → (∀ j, j < i → B j = false) → ∀ s, s < pp i → fd_B (a1 i) s = true → ¬ fd_Q c B st a2 a4 (upd a1 i (fd_one s)) a3 0 0 0
def fd_plan_at (B : Nat → Bool) (a1 a3 a16 a17 : Nat → Int32) (n : Nat) (pp pb : Nat → Nat) : Prop :=
  ∀ j, j < n → B j = true → pp j < 4 ∧ pb j < 4 ∧ a16 j = nI (pp j) ∧ a17 j = nI (pb j) ∧ fd_B (a1 j) (pp j) = true ∧ fd_B (a3 j) (pb j) = true
def fd_PV (c : Nat) (B : Nat → Bool) (st : Nat → Nat) (a1 a2 a3 a4 a16 a17 : Nat → Int32) : Prop :=
  ∃ pp pb : Nat → Nat, fd_plan_at B a1 a3 a16 a17 c pp pb ∧ fd_Q c B st a2 a4 (fun j => fd_one (pp j)) (fun j => fd_one (pb j)) 0 0 0 ∧ fd_first c B st a1 a2 a3 a4 c pp
/-- the plan's loop at the booking n -/
def fd_PI (c : Nat) (B : Nat → Bool) (st : Nat → Nat) (a1 a2 a3 a4 a6 a7 a16 a17 : Nat → Int32) (n : Nat) (pp pb : Nat → Nat) : Prop :=
  fd_plan_at B a1 a3 a16 a17 n pp pb ∧ (∀ j, j < n → B j = true → a6 j = fd_one (pp j) ∧ a7 j = fd_one (pb j)) ∧ (∀ j, n ≤ j → j < c → a6 j = a1 j ∧ a7 j = a3 j) ∧
  fd_Q c B st a2 a4 a6 a7 0 0 0 ∧ fd_first c B st a1 a2 a3 a4 n pp ∧ (∀ j, j < c → fd_set (a6 j)) ∧ (∀ j, j < c → fd_set (a7 j))
theorem fd_PI_skip {c : Nat} {B : Nat → Bool} {st : Nat → Nat} {a1 a2 a3 a4 a6 a7 a16 a17 : Nat → Int32} {n : Nat} {pp pb : Nat → Nat} (h : fd_PI c B st a1 a2 a3 a4 a6 a7 a16 a17 n pp pb) (hb : B n = false) : fd_PI c B st a1 a2 a3 a4 a6 a7 a16 a17 (n + 1) pp pb := by
  obtain ⟨h1, h2, h3, h4, h5, h6, h7⟩ := h
  have key : ∀ j, j < n + 1 → B j = true → j < n := by
    intro j hj hbj
    by_cases e : j = n
    · rw [e, hb] at hbj
      exact absurd hbj (by decide)
    · omega
  exact ⟨fun j hj hbj => h1 j (key j hj hbj) hbj, fun j hj hbj => h2 j (key j hj hbj) hbj, fun j hj hjc => h3 j (by omega) hjc, h4, fun j hj hbj => h5 j (key j hj hbj) hbj, h6, h7⟩
theorem fd_PI_step {c : Nat} {B : Nat → Bool} {st : Nat → Nat} {a1 a2 a3 a4 a6 a7 a16 a17 : Nat → Int32} {n s t : Nat} {pp pb : Nat → Nat} (h : fd_PI c B st a1 a2 a3 a4 a6 a7 a16 a17 n pp pb) (hn : n < c) (hb : B n = true)
    (hs : s < 4) (hbs : fd_B (a6 n) s = true) (hms : ∀ s', s' < s → fd_B (a6 n) s' = true → ¬ fd_Q c B st a2 a4 (upd a6 n (fd_one s')) a7 0 0 0)
    (ht : t < 4) (hbt : fd_B (a7 n) t = true) (hq : fd_Q c B st a2 a4 (upd a6 n (fd_one s)) (upd a7 n (fd_one t)) 0 0 0) :
    fd_PI c B st a1 a2 a3 a4 (upd a6 n (fd_one s)) (upd a7 n (fd_one t)) (upd a16 n (nI s)) (upd a17 n (nI t)) (n + 1) (fd_up pp n s) (fd_up pb n t) := by
  obtain ⟨h1, h2, h3, h4, h5, h6, h7⟩ := h
  obtain ⟨e6, e7⟩ := h3 n (Nat.le_refl n) hn
  refine ⟨fun j hj hbj => ?_, fun j hj hbj => ?_, fun j hj hjc => ?_, hq, fun j hj hbj hf s' hs' hbs' => ?_, fun j hj => ?_, fun j hj => ?_⟩
  · by_cases e : j = n
    · rw [e, fd_us, fd_us, pk_us, pk_us, ← e6, ← e7]
      exact ⟨hs, ht, rfl, rfl, hbs, hbt⟩
    · rw [fd_un e, fd_un e, pk_un e, pk_un e]
      exact h1 j (by omega) hbj
  · by_cases e : j = n
    · rw [e, fd_us, fd_us, pk_us, pk_us]
      exact ⟨rfl, rfl⟩
    · rw [fd_un e, fd_un e, pk_un e, pk_un e]
      exact h2 j (by omega) hbj
  · rw [pk_un (by omega), pk_un (by omega)]
    exact h3 j (by omega) hjc
  · by_cases e : j = n
    · rw [e, fd_us] at hs'
      rw [e] at hbs' hf ⊢
      intro q
      refine hms s' hs' (by rw [e6]; exact hbs') (fd_Q_congr (fun i hi hbi => ?_) (fun i hi hbi => ?_) q)
      · by_cases ei : i = n
        · rw [ei, pk_us, pk_us]
        · rw [pk_un ei, pk_un ei]
          rcases Nat.lt_or_ge i n with z | z
          · rw [hf i z] at hbi
            exact absurd hbi (by decide)
          · exact (h3 i z hi).1
      · rcases Nat.lt_or_ge i n with z | z
        · rw [hf i z] at hbi
          exact absurd hbi (by decide)
        · exact (h3 i z hi).2
    · rw [fd_un e] at hs'
      exact h5 j (by omega) hbj hf s' hs' hbs'
  · by_cases e : j = n
    · rw [e, pk_us]
      exact fd_set_one s hs
    · rw [pk_un e]
      exact h6 j hj
  · by_cases e : j = n
    · rw [e, pk_us]
      exact fd_set_one t ht
    · rw [pk_un e]
      exact h7 j hj
theorem fd_PI_end {c : Nat} {B : Nat → Bool} {st : Nat → Nat} {a1 a2 a3 a4 a6 a7 a16 a17 : Nat → Int32} {pp pb : Nat → Nat} (h : fd_PI c B st a1 a2 a3 a4 a6 a7 a16 a17 c pp pb) : fd_PV c B st a1 a2 a3 a4 a16 a17 := by
  obtain ⟨h1, h2, h3, h4, h5, h6, h7⟩ := h
  exact ⟨pp, pb, h1, fd_Q_congr (fun i hi hb => (h2 i hi hb).1.symm) (fun i hi hb => (h2 i hi hb).2.symm) h4, h5⟩
theorem fd_plan_19 {post : St2 → Prop} {pr pk : Int32} {a1 a2 a3 a4 a5 : Nat → Int32} {c : Nat} {st : Nat → Nat} (w : fd_W c st a1 a2 a3 a4 a5) (hz : ∀ i, i < c → fd_B pr i = true → ¬ a3 i = 0)
    (H : ∀ tn gn le a6 a7 a8 a9 a10 a11 a12 a13 a14 a15 a16 a17, fd_PV c (fd_B pr) st a1 a2 a3 a4 a16 a17 → post (nI c, pr, tn, gn, le, pk, a1, a2, a3, a4, a5, a6, a7, a8, a9, a10, a11, a12, a13, a14, a15, a16, a17)) :
    ∀ (d i : Nat) (tn gn le : Int32) (a6 a7 a8 a9 a10 a11 a12 a13 a14 a15 a16 a17 : Nat → Int32) (pp pb : Nat → Nat), i + d = c → fd_PI c (fd_B pr) st a1 a2 a3 a4 a6 a7 a16 a17 i pp pb →
      wX_plan_19 post (d + 1) (nI i) (nI c) pr tn gn le pk a1 a2 a3 a4 a5 a6 a7 a8 a9 a10 a11 a12 a13 a14 a15 a16 a17 := by
  have hc := w.1
  intro d
  induction d with
  | zero =>
    intro i tn gn le a6 a7 a8 a9 a10 a11 a12 a13 a14 a15 a16 a17 pp pb hi hp
    have e : i = c := by omega
    rw [e] at hp ⊢
    exact br_t (nI_le (Nat.le_refl c) (by omega)) (H tn gn le a6 a7 a8 a9 a10 a11 a12 a13 a14 a15 a16 a17 (fd_PI_end hp))
  | succ d ih =>
    intro i tn gn le a6 a7 a8 a9 a10 a11 a12 a13 a14 a15 a16 a17 pp pb hi hp
    have hic : i < c := by omega
    have ecl : (nI i).toNatClampNeg = i := nI_clamp (by omega)
    obtain ⟨h1, h2, h3, h4, h5, h6, h7⟩ := hp
    refine br_f (nI_ge hic (by omega)) (br_c (fun z => ?_) (fun z => ?_))
    · exact nm_r (nI_1 i) (ih (i + 1) tn gn le a6 a7 a8 a9 a10 a11 a12 a13 a14 a15 a16 a17 pp pb (by omega) (fd_PI_skip ⟨h1, h2, h3, h4, h5, h6, h7⟩ (fd_B_f z)))
    · have hb := fd_B_t z
      refine fd_nPick w h6 h7 hic (fd_Q_pick h6 h7 hic hb h4) (fun s tn' gn' le' b8 b9 b10 b11 b12 b13 b14 b15 hs hbs hqs hms => ?_)
      dsimp only
      rw [ecl, fd_nb (k := s) (by omega)]
      refine ⟨pk_in i 8 (by omega), nm_e ?_⟩
      have t6 : ∀ j, j < c → fd_set (upd a6 i (fd_one s) j) := by
        intro j hj
        by_cases e : j = i
        · rw [e, pk_us]
          exact fd_set_one s hs
        · rw [pk_un e]
          exact h6 j hj
      have hz7 : ¬ a7 i = 0 := by
        rw [(h3 i (Nat.le_refl i) hic).2]
        exact hz i hic hb
      refine fd_nBack w t6 h7 hic (fd_Q_back t6 h7 hic hb hz7 hqs) (fun t tn' gn' le' b8 b9 b10 b11 b12 b13 b14 b15 ht hbt hqt _ => ?_)
      dsimp only
      rw [fd_nb (k := t) (by omega)]
      exact ⟨pk_in i 8 (by omega), nm_e (nm_r (nI_1 i) (ih (i + 1) tn' gn' le' _ _ b8 b9 b10 b11 b12 b13 b14 b15 _ _ _ _ (by omega) (fd_PI_step ⟨h1, h2, h3, h4, h5, h6, h7⟩ hic hb hs hbs hms ht hbt hqt)))⟩
/-- a desk: its plain question is good, and a known plan is one -/
def fd_I (c : Nat) (pr : Int32) (st : Nat → Nat) (pk : Int32) (a1 a2 a3 a4 a5 a16 a17 : Nat → Int32) : Prop :=
  fd_W c st a1 a2 a3 a4 a5 ∧ (∃ P, P < 32 ∧ pr = nI P) ∧ (∀ i, i < 5 → fd_B pr i = true → i < c) ∧ (∀ i, i < c → fd_B pr i = true → ¬ a3 i = 0) ∧ fd_Q c (fd_B pr) st a2 a4 a1 a3 0 0 0 ∧
  (pk = 0 ∨ (pk = 1 ∧ fd_PV c (fd_B pr) st a1 a2 a3 a4 a16 a17))
theorem fd_plan {post : St2 → Prop} {pr tn gn le pk : Int32} {a1 a2 a3 a4 a5 a6 a7 a8 a9 a10 a11 a12 a13 a14 a15 a16 a17 : Nat → Int32} {c : Nat} {st : Nat → Nat} (I : fd_I c pr st pk a1 a2 a3 a4 a5 a16 a17)
    (H : ∀ tn gn le a6 a7 a8 a9 a10 a11 a12 a13 a14 a15 a16 a17, fd_PV c (fd_B pr) st a1 a2 a3 a4 a16 a17 → post (nI c, pr, tn, gn, le, 1, a1, a2, a3, a4, a5, a6, a7, a8, a9, a10, a11, a12, a13, a14, a15, a16, a17)) : wpX_plan post (nI c, pr, tn, gn, le, pk, a1, a2, a3, a4, a5, a6, a7, a8, a9, a10, a11, a12, a13, a14, a15, a16, a17) := by
  obtain ⟨w, hP, h5, hz, hq, hpk⟩ := I
  unfold wpX_plan
  dsimp only
  refine br_c (fun z => ?_) (fun z => ?_)
  · obtain ⟨hc, hst, hs5, s1, s2, s3, s4⟩ := w
    refine fd_askPlainly hc s1 s3 (fun b6 b7 q6 q7 => ?_)
    refine Exists.intro (c + 1) ?_
    refine fd_plan_19 ⟨hc, hst, hs5, s1, s2, s3, s4⟩ hz H c 0 tn gn le b6 b7 a8 a9 a10 a11 a12 a13 a14 a15 a16 a17 (fun _ => 0) (fun _ => 0) (by omega) ⟨fun j hj => absurd hj (by omega), fun j hj => absurd hj (by omega), fun j _ hj => ⟨q6 j hj, q7 j hj⟩, ?_, fun j hj => absurd hj (by omega), ?_, ?_⟩
    · exact fd_Q_congr (fun i hi _ => q6 i hi) (fun i hi _ => q7 i hi) hq
    · intro j hj
      rw [q6 j hj]
      exact s1 j hj
    · intro j hj
      rw [q7 j hj]
      exact s3 j hj
  · rcases hpk with e | ⟨e, hv⟩
    · exact absurd e z
    · rw [e]
      exact H tn gn le a6 a7 a8 a9 a10 a11 a12 a13 a14 a15 a16 a17 hv
theorem fd_holds {post : Int32 → Prop} {pr tn gn le pk : Int32} {a1 a2 a3 a4 a5 a6 a7 a8 a9 a10 a11 a12 a13 a14 a15 a16 a17 : Nat → Int32} {c i : Nat} (hc : c ≤ 5) (hi : i < 32) (H0 : ¬ (i < c ∧ fd_B pr i = true) → post 0) (H1 : i < c → fd_B pr i = true → post 1) : wpX_holds post (nI c, pr, tn, gn, le, pk, a1, a2, a3, a4, a5, a6, a7, a8, a9, a10, a11, a12, a13, a14, a15, a16, a17) (nI i) := by
  unfold wpX_holds
  dsimp only
  exact br_f (nI_pos (by omega)) (pk_le c i (fun z => H0 (fun t => absurd t.1 (by omega))) (fun z => br_c (fun y => H0 (fun t => fd_B_nt t.2 y)) (fun y => H1 z (fd_B_t y))))
theorem fd_pickupOf {post : Int32 → St2 → Prop} {pr tn gn le pk : Int32} {a1 a2 a3 a4 a5 a6 a7 a8 a9 a10 a11 a12 a13 a14 a15 a16 a17 : Nat → Int32} {c i : Nat} {st : Nat → Nat} (I : fd_I c pr st pk a1 a2 a3 a4 a5 a16 a17) (hi : i < c) (hb : fd_B pr i = true)
    (H : ∀ tn gn le a6 a7 a8 a9 a10 a11 a12 a13 a14 a15 a16 a17, fd_PV c (fd_B pr) st a1 a2 a3 a4 a16 a17 → post (a16 i) (nI c, pr, tn, gn, le, 1, a1, a2, a3, a4, a5, a6, a7, a8, a9, a10, a11, a12, a13, a14, a15, a16, a17)) : wpX_pickupOf post (nI c, pr, tn, gn, le, pk, a1, a2, a3, a4, a5, a6, a7, a8, a9, a10, a11, a12, a13, a14, a15, a16, a17) (nI i) := by
  have hc := I.1.1
  have ecl : (nI i).toNatClampNeg = i := nI_clamp (by omega)
  unfold wpX_pickupOf
  dsimp only
  refine fd_holds hc (by omega) (fun z => absurd ⟨hi, hb⟩ z) (fun _ _ => br_f (by decide) ?_)
  refine fd_plan I (fun tn gn le a6 a7 a8 a9 a10 a11 a12 a13 a14 a15 a16 a17 hv => ?_)
  dsimp only
  rw [ecl]
  exact ⟨pk_in i 8 (by omega), H tn gn le a6 a7 a8 a9 a10 a11 a12 a13 a14 a15 a16 a17 hv⟩
theorem fd_returnOf {post : Int32 → St2 → Prop} {pr tn gn le pk : Int32} {a1 a2 a3 a4 a5 a6 a7 a8 a9 a10 a11 a12 a13 a14 a15 a16 a17 : Nat → Int32} {c i : Nat} {st : Nat → Nat} (I : fd_I c pr st pk a1 a2 a3 a4 a5 a16 a17) (hi : i < c) (hb : fd_B pr i = true)
    (H : ∀ tn gn le a6 a7 a8 a9 a10 a11 a12 a13 a14 a15 a16 a17, fd_PV c (fd_B pr) st a1 a2 a3 a4 a16 a17 → post (a17 i) (nI c, pr, tn, gn, le, 1, a1, a2, a3, a4, a5, a6, a7, a8, a9, a10, a11, a12, a13, a14, a15, a16, a17)) : wpX_returnOf post (nI c, pr, tn, gn, le, pk, a1, a2, a3, a4, a5, a6, a7, a8, a9, a10, a11, a12, a13, a14, a15, a16, a17) (nI i) := by
  have hc := I.1.1
  have ecl : (nI i).toNatClampNeg = i := nI_clamp (by omega)
  unfold wpX_returnOf
  dsimp only
  refine fd_holds hc (by omega) (fun z => absurd ⟨hi, hb⟩ z) (fun _ _ => br_f (by decide) ?_)
  refine fd_plan I (fun tn gn le a6 a7 a8 a9 a10 a11 a12 a13 a14 a15 a16 a17 hv => ?_)
  dsimp only
  rw [ecl]
  exact ⟨pk_in i 8 (by omega), H tn gn le a6 a7 a8 a9 a10 a11 a12 a13 a14 a15 a16 a17 hv⟩
theorem fd_couldPick {post : Int32 → St2 → Prop} {pr tn gn le pk : Int32} {a1 a2 a3 a4 a5 a6 a7 a8 a9 a10 a11 a12 a13 a14 a15 a16 a17 : Nat → Int32} {c i s : Nat} {st : Nat → Nat} (w : fd_W c st a1 a2 a3 a4 a5) (hi : i < c) (hb : fd_B pr i = true) (hs : s < 4)
    (H0 : ∀ tn gn le a6 a7 a8 a9 a10 a11 a12 a13 a14 a15, ¬ (fd_B (a1 i) s = true ∧ fd_Q c (fd_B pr) st a2 a4 (upd a1 i (fd_one s)) a3 0 0 0) → post 0 (nI c, pr, tn, gn, le, pk, a1, a2, a3, a4, a5, a6, a7, a8, a9, a10, a11, a12, a13, a14, a15, a16, a17))
    (H1 : ∀ tn gn le a6 a7 a8 a9 a10 a11 a12 a13 a14 a15, fd_B (a1 i) s = true → fd_Q c (fd_B pr) st a2 a4 (upd a1 i (fd_one s)) a3 0 0 0 → post 1 (nI c, pr, tn, gn, le, pk, a1, a2, a3, a4, a5, a6, a7, a8, a9, a10, a11, a12, a13, a14, a15, a16, a17)) :
    wpX_couldPick post (nI c, pr, tn, gn, le, pk, a1, a2, a3, a4, a5, a6, a7, a8, a9, a10, a11, a12, a13, a14, a15, a16, a17) (nI i) (nI s) := by
  obtain ⟨hc, hst, h5, s1, s2, s3, s4⟩ := w
  have ecl : (nI i).toNatClampNeg = i := nI_clamp (by omega)
  unfold wpX_couldPick
  dsimp only
  rw [ecl]
  refine fd_holds hc (by omega) (fun z => absurd ⟨hi, hb⟩ z) (fun _ _ => br_f (by decide) (br_f (nI_pos (by omega)) (br_f (nI_nlt (b := s) (a := 3) (by omega) (by decide)) ⟨pk_in i 8 (by omega), br_c (fun z => ?_) (fun z => ?_)⟩)))
  · exact H0 tn gn le a6 a7 a8 a9 a10 a11 a12 a13 a14 a15 (fun t => fd_B_nt t.1 z)
  · refine fd_askPlainly hc s1 s3 (fun b6 b7 q6 q7 => ?_)
    refine ⟨pk_in i 8 (by omega), nm_r (e' := upd b6 i (fd_one s)) rfl ?_⟩
    have t6 : ∀ j, j < c → fd_set (upd b6 i (fd_one s) j) := by
      intro j hj
      by_cases e : j = i
      · rw [e, pk_us]
        exact fd_set_one s hs
      · rw [pk_un e, q6 j hj]
        exact s1 j hj
    have t7 : ∀ j, j < c → fd_set (b7 j) := fun j hj => by
      rw [q7 j hj]
      exact s3 j hj
    have u6 : ∀ j, j < c → upd b6 i (fd_one s) j = upd a1 i (fd_one s) j := by
      intro j hj
      by_cases e : j = i
      · rw [e, pk_us, pk_us]
      · rw [pk_un e, pk_un e]
        exact q6 j hj
    refine fd_missing hc hst h5 s2 s4 t6 t7 (fun r tn' gn' le' b8 b9 b10 b11 b12 b13 b14 b15 hr => ?_)
    exact br_c (fun y => H1 tn' gn' le' _ b7 b8 b9 b10 b11 b12 b13 b14 b15 (fd_B_t z) (fd_Q_congr (fun j hj _ => (u6 j hj).symm) (fun j hj _ => (q7 j hj).symm) (hr.mp y)))
      (fun y => H0 tn' gn' le' _ b7 b8 b9 b10 b11 b12 b13 b14 b15 (fun t => y (hr.mpr (fd_Q_congr (fun j hj _ => u6 j hj) (fun j hj _ => q7 j hj) t.2))))
theorem fd_couldReturn {post : Int32 → St2 → Prop} {pr tn gn le pk : Int32} {a1 a2 a3 a4 a5 a6 a7 a8 a9 a10 a11 a12 a13 a14 a15 a16 a17 : Nat → Int32} {c i s : Nat} {st : Nat → Nat} (w : fd_W c st a1 a2 a3 a4 a5) (hi : i < c) (hb : fd_B pr i = true) (hs : s < 4)
    (hbs : fd_B (a3 i) s = true) (hq : fd_Q c (fd_B pr) st a2 a4 a1 (upd a3 i (fd_one s)) 0 0 0)
    (H1 : ∀ tn gn le a6 a7 a8 a9 a10 a11 a12 a13 a14 a15, post 1 (nI c, pr, tn, gn, le, pk, a1, a2, a3, a4, a5, a6, a7, a8, a9, a10, a11, a12, a13, a14, a15, a16, a17)) :
    wpX_couldReturn post (nI c, pr, tn, gn, le, pk, a1, a2, a3, a4, a5, a6, a7, a8, a9, a10, a11, a12, a13, a14, a15, a16, a17) (nI i) (nI s) := by
  obtain ⟨hc, hst, h5, s1, s2, s3, s4⟩ := w
  have ecl : (nI i).toNatClampNeg = i := nI_clamp (by omega)
  unfold wpX_couldReturn
  dsimp only
  rw [ecl]
  refine fd_holds hc (by omega) (fun z => absurd ⟨hi, hb⟩ z) (fun _ _ => br_f (by decide) (br_f (nI_pos (by omega)) (br_f (nI_nlt (b := s) (a := 3) (by omega) (by decide)) ⟨pk_in i 8 (by omega), br_f (fd_B_nt hbs) ?_⟩)))
  refine fd_askPlainly hc s1 s3 (fun b6 b7 q6 q7 => ?_)
  refine ⟨pk_in i 8 (by omega), nm_r (e' := upd b7 i (fd_one s)) rfl ?_⟩
  have t7 : ∀ j, j < c → fd_set (upd b7 i (fd_one s) j) := by
    intro j hj
    by_cases e : j = i
    · rw [e, pk_us]
      exact fd_set_one s hs
    · rw [pk_un e, q7 j hj]
      exact s3 j hj
  have t6 : ∀ j, j < c → fd_set (b6 j) := fun j hj => by
    rw [q6 j hj]
    exact s1 j hj
  have u7 : ∀ j, j < c → upd b7 i (fd_one s) j = upd a3 i (fd_one s) j := by
    intro j hj
    by_cases e : j = i
    · rw [e, pk_us, pk_us]
    · rw [pk_un e, pk_un e]
      exact q7 j hj
  refine fd_missing hc hst h5 s2 s4 t6 t7 (fun r tn' gn' le' b8 b9 b10 b11 b12 b13 b14 b15 hr => ?_)
  exact br_t (hr.mpr (fd_Q_congr (fun j hj _ => q6 j hj) (fun j hj _ => u7 j hj) hq)) (H1 tn' gn' le' b6 _ b8 b9 b10 b11 b12 b13 b14 b15)
end
section
/-! the walks of setStock, cancel, book, turn: each keeps the desk -/
theorem fd_Q_congr4 {c : Nat} {B : Nat → Bool} {st : Nat → Nat} {pT bT aP aB pT' bT' aP' aB' : Nat → Int32} {k : Nat} {xs xt : Int32}
    (h2 : ∀ i, i < c → B i = true → pT' i = pT i) (h4 : ∀ i, i < c → B i = true → bT' i = bT i) (h6 : ∀ i, i < c → B i = true → aP' i = aP i) (h7 : ∀ i, i < c → B i = true → aB' i = aB i) :
    fd_Q c B st pT' bT' aP' aB' k xs xt ↔ fd_Q c B st pT bT aP aB k xs xt := by
  have kt : ∀ (f f' : Nat → Int32) (x : Int32), (∀ i, i < c → B i = true → f' i = f i) → ∀ j, fd_ts c B f' x j = fd_ts c B f x j := by
    intro f f' x h j
    by_cases hj : j < fd_pos B c
    · rw [show fd_ts c B f' x j = f' (fd_bk B c j) from if_pos hj, show fd_ts c B f x j = f (fd_bk B c j) from if_pos hj]
      obtain ⟨t1, t2, _⟩ := fd_bk_in c j hj
      exact h _ t1 t2
    · rw [show fd_ts c B f' x j = x from if_neg hj, show fd_ts c B f x j = x from if_neg hj]
  refine fd_Q_of (fun j _ => kt aP aP' xs h6 j) (fun j _ => kt pT pT' xt h2 j) (fun g hg => ?_) (fun g hg => ?_)
  · by_cases hg' : g < fd_pre st 4
    · rw [show fd_gs c B st aB' g = fd_sg st 4 g from if_pos hg', show fd_gs c B st aB g = fd_sg st 4 g from if_pos hg']
    · rw [show fd_gs c B st aB' g = aB' (fd_bk B c (g - fd_pre st 4)) from if_neg hg', show fd_gs c B st aB g = aB (fd_bk B c (g - fd_pre st 4)) from if_neg hg']
      obtain ⟨t1, t2, _⟩ := fd_bk_in (B := B) c (g - fd_pre st 4) (by omega)
      exact h7 _ t1 t2
  · by_cases hg' : g < fd_pre st 4
    · rw [show fd_gt c B st bT' g = 0 from if_pos hg', show fd_gt c B st bT g = 0 from if_pos hg']
    · rw [show fd_gt c B st bT' g = bT' (fd_bk B c (g - fd_pre st 4)) from if_neg hg', show fd_gt c B st bT g = bT (fd_bk B c (g - fd_pre st 4)) from if_neg hg']
      obtain ⟨t1, t2, _⟩ := fd_bk_in (B := B) c (g - fd_pre st 4) (by omega)
      exact h4 _ t1 t2
theorem fd_PV_congr {c : Nat} {B : Nat → Bool} {st : Nat → Nat} {a1 a2 a3 a4 b1 b2 b3 b4 a16 a17 : Nat → Int32}
    (h1 : ∀ i, i < c → B i = true → b1 i = a1 i) (h2 : ∀ i, i < c → B i = true → b2 i = a2 i) (h3 : ∀ i, i < c → B i = true → b3 i = a3 i) (h4 : ∀ i, i < c → B i = true → b4 i = a4 i)
    (h : fd_PV c B st a1 a2 a3 a4 a16 a17) : fd_PV c B st b1 b2 b3 b4 a16 a17 := by
  obtain ⟨pp, pb, p1, p2, p3⟩ := h
  refine ⟨pp, pb, fun j hj hb => ?_, (fd_Q_congr4 h2 h4 (fun _ _ _ => rfl) (fun _ _ _ => rfl)).mpr p2, fun i hi hb hf s hs hbs q => ?_⟩
  · rw [h1 j hj hb, h3 j hj hb]
    exact p1 j hj hb
  · rw [h1 i hi hb] at hbs
    refine p3 i hi hb hf s hs hbs ((fd_Q_congr4 h2 h4 (fun j hj hbj => ?_) h3).mp q)
    by_cases e : j = i
    · rw [e, pk_us, pk_us]
    · rw [pk_un e, pk_un e]
      exact h1 j hj hbj
def fd_c1 (P i R : Nat) : Bool := decide (R < 32) && decide (nI P &&& (((1 : Int32) <<< (nI i &&& 31)) ^^^ (-1)) = nI R) && decide (nI R ||| ((1 : Int32) <<< (nI i &&& 31)) = nI P) &&
  (List.range 5).all (fun j => decide (fd_B (nI R) j = true → fd_B (nI P) j = true))
theorem fd_c1_t : ∀ P, P < 32 → ∀ i, i < 5 → fd_B (nI P) i = true → fd_c1 P i (P - 2 ^ i) = true := by decide +kernel
theorem fd_clear {P i : Nat} (hP : P < 32) (hi : i < 5) (hb : fd_B (nI P) i = true) : ∃ R, R < 32 ∧ nI P &&& (((1 : Int32) <<< (nI i &&& 31)) ^^^ (-1)) = nI R ∧ nI R ||| ((1 : Int32) <<< (nI i &&& 31)) = nI P ∧ ∀ j, j < 5 → fd_B (nI R) j = true → fd_B (nI P) j = true := by
  have t := fd_c1_t P hP i hi hb
  unfold fd_c1 at t
  rw [Bool.and_eq_true, Bool.and_eq_true, Bool.and_eq_true] at t
  exact ⟨P - 2 ^ i, of_decide_eq_true t.1.1.1, of_decide_eq_true t.1.1.2, of_decide_eq_true t.1.2, fun j hj => co_dec (P := fun j => fd_B (nI (P - 2 ^ i)) j = true → fd_B (nI P) j = true) t.2 hj⟩
def fd_c2 (P i R : Nat) : Bool := decide (R < 32) && decide (nI P ||| ((1 : Int32) <<< (nI i &&& 31)) = nI R) && decide (nI R &&& (((1 : Int32) <<< (nI i &&& 31)) ^^^ (-1)) = nI P) &&
  (List.range 5).all (fun j => decide (fd_B (nI R) j = true → j = i ∨ fd_B (nI P) j = true))
theorem fd_c2_t : ∀ P, P < 32 → ∀ i, i < 5 → fd_B (nI P) i = false → fd_c2 P i (P + 2 ^ i) = true := by decide +kernel
theorem fd_setb {P i : Nat} (hP : P < 32) (hi : i < 5) (hb : fd_B (nI P) i = false) : ∃ R, R < 32 ∧ nI P ||| ((1 : Int32) <<< (nI i &&& 31)) = nI R ∧ nI R &&& (((1 : Int32) <<< (nI i &&& 31)) ^^^ (-1)) = nI P ∧ ∀ j, j < 5 → fd_B (nI R) j = true → j = i ∨ fd_B (nI P) j = true := by
  have t := fd_c2_t P hP i hi hb
  unfold fd_c2 at t
  rw [Bool.and_eq_true, Bool.and_eq_true, Bool.and_eq_true] at t
  exact ⟨P + 2 ^ i, of_decide_eq_true t.1.1.1, of_decide_eq_true t.1.1.2, of_decide_eq_true t.1.2, fun j hj => co_dec (P := fun j => fd_B (nI (P + 2 ^ i)) j = true → j = i ∨ fd_B (nI P) j = true) t.2 hj⟩
theorem fd_setStock {post : Int32 → St2 → Prop} {pr tn gn le pk : Int32} {a1 a2 a3 a4 a5 a6 a7 a8 a9 a10 a11 a12 a13 a14 a15 a16 a17 : Nat → Int32} {c s n : Nat} {st : Nat → Nat} (I : fd_I c pr st pk a1 a2 a3 a4 a5 a16 a17) (hs : s < 4) (hn : n < 4)
    (H : ∀ (r : Int32) (st : Nat → Nat) tn gn le pk a5 a6 a7 a8 a9 a10 a11 a12 a13 a14 a15, fd_I c pr st pk a1 a2 a3 a4 a5 a16 a17 → post r (nI c, pr, tn, gn, le, pk, a1, a2, a3, a4, a5, a6, a7, a8, a9, a10, a11, a12, a13, a14, a15, a16, a17)) :
    wpX_setStock post (nI c, pr, tn, gn, le, pk, a1, a2, a3, a4, a5, a6, a7, a8, a9, a10, a11, a12, a13, a14, a15, a16, a17) (nI s) (nI n) := by
  have I0 := I
  obtain ⟨⟨hc, hst, h5, s1, s2, s3, s4⟩, hP, hin, hz, hq, hpk⟩ := I
  have ecl : (nI s).toNatClampNeg = s := nI_clamp (by omega)
  unfold wpX_setStock
  dsimp only
  refine br_f (nI_pos (by omega)) (br_f (nI_nlt (b := s) (a := 3) (by omega) (by decide)) (br_f (nI_pos (by omega)) (br_t (nI_le (b := 3) (by omega) (by decide)) ⟨pk_in s 4 hs, ?_⟩)))
  rw [ecl, fd_nb (k := n) (by omega)]
  refine nm_e ⟨pk_in s 4 hs, nm_e ?_⟩
  have hst' : ∀ t, t < 4 → fd_up st s n t ≤ 3 := by
    intro t ht
    by_cases e : t = s
    · rw [e, fd_us]
      omega
    · rw [fd_un e]
      exact hst t ht
  have h5' : ∀ t, t < 4 → upd a5 s (nI n) t = nI (fd_up st s n t) := by
    intro t ht
    by_cases e : t = s
    · rw [e, fd_us, pk_us]
    · rw [fd_un e, pk_un e]
      exact h5 t ht
  refine fd_feasible hc hst' h5' s1 s2 s3 s4 ?_ ?_
  · intro tn gn le b6 b7 b8 b9 b10 b11 b12 b13 b14 b15 _
    refine br_t rfl ⟨pk_in s 4 hs, nm_r (e' := a5) ?_ (H (-3) st tn gn le pk a5 b6 b7 b8 b9 b10 b11 b12 b13 b14 b15 I0)⟩
    rw [fd_uu]
    have e : (a5 s).toInt8.toInt32 = a5 s := by
      rw [h5 s hs]
      have := hst s hs
      exact fd_nb (by omega)
    rw [e, fd_ue]
  · intro tn gn le b6 b7 b8 b9 b10 b11 b12 b13 b14 b15 hq'
    exact br_f (by decide) (H (nI n) (fd_up st s n) tn gn le 0 (upd a5 s (nI n)) b6 b7 b8 b9 b10 b11 b12 b13 b14 b15 ⟨⟨hc, hst', h5', s1, s2, s3, s4⟩, hP, hin, hz, hq', Or.inl rfl⟩)
theorem fd_cancel {post : Int32 → St2 → Prop} {pr tn gn le pk : Int32} {a1 a2 a3 a4 a5 a6 a7 a8 a9 a10 a11 a12 a13 a14 a15 a16 a17 : Nat → Int32} {c i : Nat} {st : Nat → Nat} (I : fd_I c pr st pk a1 a2 a3 a4 a5 a16 a17) (hi : i < 8)
    (H : ∀ (r : Int32) pr tn gn le pk a6 a7 a8 a9 a10 a11 a12 a13 a14 a15, fd_I c pr st pk a1 a2 a3 a4 a5 a16 a17 → post r (nI c, pr, tn, gn, le, pk, a1, a2, a3, a4, a5, a6, a7, a8, a9, a10, a11, a12, a13, a14, a15, a16, a17)) :
    wpX_cancel post (nI c, pr, tn, gn, le, pk, a1, a2, a3, a4, a5, a6, a7, a8, a9, a10, a11, a12, a13, a14, a15, a16, a17) (nI i) := by
  have I0 := I
  obtain ⟨⟨hc, hst, h5, s1, s2, s3, s4⟩, ⟨P, hP, eP⟩, hin, hz, hq, hpk⟩ := I
  unfold wpX_cancel
  dsimp only
  refine fd_holds hc (by omega) (fun _ => br_t rfl (H (-1) pr tn gn le pk a6 a7 a8 a9 a10 a11 a12 a13 a14 a15 I0)) (fun hic hb => br_f (by decide) ?_)
  have hb' := hb
  rw [eP] at hb'
  obtain ⟨R, hR, r1, r2, r3⟩ := fd_clear hP (show i < 5 by omega) hb'
  refine nm_r (e' := nI R) (by rw [eP]; exact r1) ?_
  refine fd_feasible hc hst h5 s1 s2 s3 s4 ?_ ?_
  · intro tn gn le b6 b7 b8 b9 b10 b11 b12 b13 b14 b15 _
    exact br_t rfl (nm_r (e' := pr) (by rw [eP]; exact r2) (H (-3) pr tn gn le pk b6 b7 b8 b9 b10 b11 b12 b13 b14 b15 I0))
  · intro tn gn le b6 b7 b8 b9 b10 b11 b12 b13 b14 b15 hq'
    have hsub : ∀ j, j < 5 → fd_B (nI R) j = true → fd_B pr j = true := fun j hj hbj => by
      rw [eP]
      exact r3 j hj hbj
    exact br_f (by decide) (H (nI i) (nI R) tn gn le 0 b6 b7 b8 b9 b10 b11 b12 b13 b14 b15 ⟨⟨hc, hst, h5, s1, s2, s3, s4⟩, ⟨R, hR, rfl⟩, fun j hj hbj => hin j hj (hsub j hj hbj), fun j hj hbj => hz j hj (hsub j (by omega) hbj), hq', Or.inl rfl⟩)
theorem fd_argumentsOk {post : Int32 → Prop} {u : St1} {p t q v : Nat} (hp : 1 ≤ p) (hp' : p ≤ 15) (hq : 1 ≤ q) (hq' : q ≤ 15) (ht : t < v) (hv : v ≤ 8) (H : post 1) : wpX_argumentsOk post u (nI p) (nI t) (nI q) (nI v) := by
  unfold wpX_argumentsOk
  refine br_f (nI_nlt (b := 1) hp (by omega)) (br_f (nI_nlt (a := 15) hp' (by decide)) (br_f (nI_nlt (b := 1) hq (by omega)) (br_f (nI_nlt (a := 15) hq' (by decide)) ?_)))
  exact br_f (by decide) (br_f (nI_pos (by omega)) (br_f (nI_ge ht (by omega)) (br_f (nI_nlt (a := 8) hv (by decide)) H)))
theorem fd_freeNumber {post : Int32 → Prop} {pr tn gn le pk : Int32} {a1 a2 a3 a4 a5 a6 a7 a8 a9 a10 a11 a12 a13 a14 a15 a16 a17 : Nat → Int32} {c : Nat} (hc : c ≤ 5) (H0 : post (-1)) (H1 : ∀ i, i < c → fd_B pr i = false → post (nI i)) : wpX_freeNumber post (nI c, pr, tn, gn, le, pk, a1, a2, a3, a4, a5, a6, a7, a8, a9, a10, a11, a12, a13, a14, a15, a16, a17) := by
  have main : ∀ d i, i + d = c → wX_freeNumber_2 post (nI c) pr tn gn le pk a1 a2 a3 a4 a5 a6 a7 a8 a9 a10 a11 a12 a13 a14 a15 a16 a17 (d + 1) (nI i) := by
    intro d
    induction d with
    | zero =>
      intro i hi
      exact br_t (nI_le (by omega) (by omega)) H0
    | succ d ih =>
      intro i hi
      exact br_f (nI_ge (by omega) (by omega)) (br_c (fun z => H1 i (by omega) (fd_B_f z)) (fun _ => nm_r (nI_1 i) (ih (i + 1) (by omega))))
  exact Exists.intro (c + 1) (main c 0 (by omega))
theorem fd_probe {post : Int32 → St2 → Prop} {pr tn gn le pk : Int32} {a1 a2 a3 a4 a5 a6 a7 a8 a9 a10 a11 a12 a13 a14 a15 a16 a17 : Nat → Int32} {c p t q v : Nat} {st : Nat → Nat} (I : fd_I c pr st pk a1 a2 a3 a4 a5 a16 a17) (hp : 1 ≤ p) (hp' : p ≤ 15) (hq : 1 ≤ q) (hq' : q ≤ 15) (ht : t < v) (hv : v ≤ 8)
    (H0 : ∀ (r : Int32) tn gn le a1 a2 a3 a4 a6 a7 a8 a9 a10 a11 a12 a13 a14 a15, r < 0 → fd_I c pr st pk a1 a2 a3 a4 a5 a16 a17 → post r (nI c, pr, tn, gn, le, pk, a1, a2, a3, a4, a5, a6, a7, a8, a9, a10, a11, a12, a13, a14, a15, a16, a17))
    (H1 : ∀ (i : Nat) tn gn le a1 a2 a3 a4 a6 a7 a8 a9 a10 a11 a12 a13 a14 a15, i < c → fd_I c (pr ||| ((1 : Int32) <<< (nI i &&& 31))) st 0 a1 a2 a3 a4 a5 a16 a17 → post (nI i) (nI c, pr, tn, gn, le, pk, a1, a2, a3, a4, a5, a6, a7, a8, a9, a10, a11, a12, a13, a14, a15, a16, a17)) :
    wpX_probe post (nI c, pr, tn, gn, le, pk, a1, a2, a3, a4, a5, a6, a7, a8, a9, a10, a11, a12, a13, a14, a15, a16, a17) (nI p) (nI t) (nI q) (nI v) := by
  have I0 := I
  obtain ⟨⟨hc, hst, h5, s1, s2, s3, s4⟩, ⟨P, hP, eP⟩, hin, hz, hqq, hpk⟩ := I
  unfold wpX_probe
  dsimp only
  refine fd_argumentsOk hp hp' hq hq' ht hv (br_f (by decide) ?_)
  refine fd_freeNumber hc (br_f (by decide) (H0 (-2) tn gn le a1 a2 a3 a4 a6 a7 a8 a9 a10 a11 a12 a13 a14 a15 (by decide) I0)) (fun i hi hb => br_t (nI_pos' (by omega)) ?_)
  have ecl : (nI i).toNatClampNeg = i := nI_clamp (by omega)
  have hb' := hb
  rw [eP] at hb'
  obtain ⟨R, hR, r1, r2, r3⟩ := fd_setb hP (show i < 5 by omega) hb'
  have hne : ∀ j, fd_B pr j = true → j ≠ i := by
    intro j hj e
    rw [e, hb] at hj
    exact absurd hj (by decide)
  have su : ∀ (a : Nat → Int32) (x : Nat), x < 16 → (∀ j, j < c → fd_set (a j)) → ∀ j, j < c → fd_set (upd a i (nI x) j) := by
    intro a x hx h j hj
    by_cases e : j = i
    · rw [e, pk_us]
      exact ⟨x, hx, rfl⟩
    · rw [pk_un e]
      exact h j hj
  have w' : fd_W c st (upd a1 i (nI p)) (upd a2 i (nI t)) (upd a3 i (nI q)) (upd a4 i (nI v)) a5 := ⟨hc, hst, h5, su a1 p (by omega) s1, su a2 t (by omega) s2, su a3 q (by omega) s3, su a4 v (by omega) s4⟩
  have cg : ∀ (a : Nat → Int32) (x : Int32) j, j < c → fd_B pr j = true → upd a i x j = a j := fun a x j _ hj => pk_un (hne j hj)
  unfold wpX_put
  dsimp only
  rw [ecl, fd_nb (k := p) (by omega), fd_nb (k := t) (by omega), fd_nb (k := q) (by omega), fd_nb (k := v) (by omega)]
  refine ⟨pk_in i 8 (by omega), nm_e ⟨pk_in i 8 (by omega), nm_e ⟨pk_in i 8 (by omega), nm_e ⟨pk_in i 8 (by omega), nm_e (nm_r (e' := nI R) (by rw [eP]; exact r1) ?_)⟩⟩⟩⟩
  refine fd_feasible hc hst h5 w'.2.2.2.1 w'.2.2.2.2.1 w'.2.2.2.2.2.1 w'.2.2.2.2.2.2 ?_ ?_
  · intro tn gn le b6 b7 b8 b9 b10 b11 b12 b13 b14 b15 _
    refine nm_r (e' := pr) (by rw [eP]; exact r2) (br_t rfl (H0 (-3) tn gn le (upd a1 i (nI p)) (upd a2 i (nI t)) (upd a3 i (nI q)) (upd a4 i (nI v)) b6 b7 b8 b9 b10 b11 b12 b13 b14 b15 (by decide) ⟨w', ⟨P, hP, eP⟩, hin, fun j hj hbj => ?_, ?_, ?_⟩))
    · rw [pk_un (hne j hbj)]
      exact hz j hj hbj
    · exact (fd_Q_congr4 (cg a2 _) (cg a4 _) (cg a1 _) (cg a3 _)).mpr hqq
    · rcases hpk with e | ⟨e, hpv⟩
      · exact Or.inl e
      · exact Or.inr ⟨e, fd_PV_congr (cg a1 _) (cg a2 _) (cg a3 _) (cg a4 _) hpv⟩
  · intro tn gn le b6 b7 b8 b9 b10 b11 b12 b13 b14 b15 hq2
    refine nm_r (e' := pr) (by rw [eP]; exact r2) (br_f (by decide) (H1 i tn gn le (upd a1 i (nI p)) (upd a2 i (nI t)) (upd a3 i (nI q)) (upd a4 i (nI v)) b6 b7 b8 b9 b10 b11 b12 b13 b14 b15 hi ?_))
    rw [show pr ||| ((1 : Int32) <<< (nI i &&& 31)) = nI R by rw [eP]; exact r1]
    refine ⟨w', ⟨R, hR, rfl⟩, fun j hj hbj => ?_, fun j hj hbj => ?_, hq2, Or.inl rfl⟩
    · rcases r3 j hj hbj with e | e
      · rw [e]
        exact hi
      · exact hin j hj (by rw [eP]; exact e)
    · by_cases e : j = i
      · rw [e, pk_us]
        exact nI_ne0 (by omega) (by omega)
      · rw [pk_un e]
        rcases r3 j (by omega) hbj with e' | e'
        · exact absurd e' e
        · exact hz j hj (by rw [eP]; exact e')
theorem fd_book {post : Int32 → St2 → Prop} {pr tn gn le pk : Int32} {a1 a2 a3 a4 a5 a6 a7 a8 a9 a10 a11 a12 a13 a14 a15 a16 a17 : Nat → Int32} {c p t q v : Nat} {st : Nat → Nat} (I : fd_I c pr st pk a1 a2 a3 a4 a5 a16 a17) (hp : 1 ≤ p) (hp' : p ≤ 15) (hq : 1 ≤ q) (hq' : q ≤ 15) (ht : t < v) (hv : v ≤ 8)
    (H : ∀ (r : Int32) pr tn gn le pk a1 a2 a3 a4 a6 a7 a8 a9 a10 a11 a12 a13 a14 a15, fd_I c pr st pk a1 a2 a3 a4 a5 a16 a17 → post r (nI c, pr, tn, gn, le, pk, a1, a2, a3, a4, a5, a6, a7, a8, a9, a10, a11, a12, a13, a14, a15, a16, a17)) :
    wpX_book post (nI c, pr, tn, gn, le, pk, a1, a2, a3, a4, a5, a6, a7, a8, a9, a10, a11, a12, a13, a14, a15, a16, a17) (nI p) (nI t) (nI q) (nI v) := by
  have hc := I.1.1
  unfold wpX_book
  dsimp only
  refine fd_probe I hp hp' hq hq' ht hv ?_ ?_
  · intro r tn gn le b1 b2 b3 b4 b6 b7 b8 b9 b10 b11 b12 b13 b14 b15 hr I'
    exact br_t hr (H r pr tn gn le pk b1 b2 b3 b4 b6 b7 b8 b9 b10 b11 b12 b13 b14 b15 I')
  · intro i tn gn le b1 b2 b3 b4 b6 b7 b8 b9 b10 b11 b12 b13 b14 b15 hi I'
    exact br_f (nI_pos (by omega)) (nm_e (H (nI i) _ tn gn le 0 b1 b2 b3 b4 b6 b7 b8 b9 b10 b11 b12 b13 b14 b15 I'))
theorem fd_turn {post : St2 → Prop} {pr tn gn le pk : Int32} {a1 a2 a3 a4 a5 a6 a7 a8 a9 a10 a11 a12 a13 a14 a15 a16 a17 : Nat → Int32} {c : Nat} {st : Nat → Nat} {p1 p2 p3 : Int32} (I : fd_I c pr st pk a1 a2 a3 a4 a5 a16 a17)
    (H : ∀ (st : Nat → Nat) pr tn gn le pk a1 a2 a3 a4 a5 a6 a7 a8 a9 a10 a11 a12 a13 a14 a15 a16 a17, fd_I c pr st pk a1 a2 a3 a4 a5 a16 a17 → post (nI c, pr, tn, gn, le, pk, a1, a2, a3, a4, a5, a6, a7, a8, a9, a10, a11, a12, a13, a14, a15, a16, a17)) :
    wpL_turn post (nI c, pr, tn, gn, le, pk, a1, a2, a3, a4, a5, a6, a7, a8, a9, a10, a11, a12, a13, a14, a15, a16, a17) p1 p2 p3 := by
  obtain ⟨j, hj, ej⟩ := pk_andE p2 (m := 65535) 16 (by decide)
  obtain ⟨y, hy, ey⟩ := pk_andE p3 (m := 3) 2 (by decide)
  obtain ⟨z, hz, ez⟩ := pk_andE (p3 >>> ((2 : Int32) &&& 31)) (m := 255) 8 (by decide)
  obtain ⟨z', hz', ez'⟩ := pk_andE (p3 >>> ((10 : Int32) &&& 31)) (m := 255) 8 (by decide)
  obtain ⟨s, hs, es⟩ := pk_andE p2 (m := 3) 2 (by decide)
  obtain ⟨k, hk, ek⟩ := pk_andE p2 (m := 7) 3 (by decide)
  have e1 : nI j - nI j / 8 * 8 = nI (j % 8) := pk_rem (d := 8) (by omega) (by omega) (by omega)
  have e2 : 1 + (nI z - nI z / 15 * 15) = nI (1 + z % 15) := by
    rw [show nI z - nI z / 15 * 15 = nI (z % 15) from pk_rem (d := 15) (by omega) (by omega) (by omega)]
    exact nI_add 1 _
  have e3 : 1 + (nI z' - nI z' / 15 * 15) = nI (1 + z' % 15) := by
    rw [show nI z' - nI z' / 15 * 15 = nI (z' % 15) from pk_rem (d := 15) (by omega) (by omega) (by omega)]
    exact nI_add 1 _
  have e4 : nI (j % 8) + 1 + nI y = nI (j % 8 + 1 + y) := by
    rw [nI_1, nI_add]
  have m1 := Nat.mod_lt j (show 8 > 0 by decide)
  have m2 := Nat.mod_lt z (show 15 > 0 by decide)
  have m3 := Nat.mod_lt z' (show 15 > 0 by decide)
  unfold wpL_turn
  dsimp only
  rw [ej, ey, ez, ez', es, ek, e1, e2, e3]
  refine ⟨by decide, nm_e (nm_r e4 ⟨by decide, nm_e ⟨by decide, nm_e (br_c (fun _ => br_c (fun _ => ?_) (fun _ => ?_)) (fun _ => pk_le (j % 8 + 1 + y) 8 (fun g => ?_) (fun g => ?_)))⟩⟩)⟩
  · exact fd_setStock I hs hy (fun r st' tn gn le pk' b5 b6 b7 b8 b9 b10 b11 b12 b13 b14 b15 I' => H st' pr tn gn le pk' a1 a2 a3 a4 b5 b6 b7 b8 b9 b10 b11 b12 b13 b14 b15 a16 a17 I')
  · exact fd_cancel I hk (fun r pr' tn gn le pk' b6 b7 b8 b9 b10 b11 b12 b13 b14 b15 I' => H st pr' tn gn le pk' a1 a2 a3 a4 a5 b6 b7 b8 b9 b10 b11 b12 b13 b14 b15 a16 a17 I')
  · unfold wL_turn_75
    exact fd_book I (by omega) (by omega) (by omega) (by omega) (by omega) g (fun r pr' tn gn le pk' b1 b2 b3 b4 b6 b7 b8 b9 b10 b11 b12 b13 b14 b15 I' => H st pr' tn gn le pk' b1 b2 b3 b4 a5 b6 b7 b8 b9 b10 b11 b12 b13 b14 b15 a16 a17 I')
  · unfold wL_turn_75
    exact fd_book (v := 8) I (by omega) (by omega) (by omega) (by omega) (by omega) (by omega) (fun r pr' tn gn le pk' b1 b2 b3 b4 b6 b7 b8 b9 b10 b11 b12 b13 b14 b15 I' => H st pr' tn gn le pk' b1 b2 b3 b4 a5 b6 b7 b8 b9 b10 b11 b12 b13 b14 b15 a16 a17 I')
end
section
/-! the walks of shortage, spare and the law's spares -/
theorem fd_add_s {c : Nat} {B : Nat → Bool} {st : Nat → Nat} {pT bT aP aB b8 b9 b10 b11 : Nat → Int32} {q : Nat} {x y : Int32} (h1 : fd_g1 c B st pT bT aP aB (fd_pos B c) b8 b9 b10 b11) (h2 : ∀ j, fd_pos B c ≤ j → j < fd_pos B c + q → b8 j = x ∧ b9 j = y) :
    fd_g1 c B st pT bT aP aB (fd_pos B c) (upd b8 (fd_pos B c + q) x) (upd b9 (fd_pos B c + q) y) b10 b11 ∧ (∀ j, fd_pos B c ≤ j → j < fd_pos B c + (q + 1) → upd b8 (fd_pos B c + q) x j = x ∧ upd b9 (fd_pos B c + q) y j = y) := by
  refine ⟨fun j hj => ?_, fun j h3 h4 => ?_⟩
  · rw [pk_un (by omega), pk_un (by omega)]
    exact h1 j hj
  · by_cases e : j = fd_pos B c + q
    · rw [e, pk_us, pk_us]
      exact ⟨rfl, rfl⟩
    · rw [pk_un e, pk_un e]
      exact h2 j h3 (by omega)
theorem fd_short_44 {post : Int32 → St2 → Prop} {pr pk : Int32} {a1 a2 a3 a4 a5 a6 a7 a16 a17 : Nat → Int32} {c s x k : Nat} {st : Nat → Nat} (hc : c ≤ 5) (hst : ∀ s, s < 4 → st s ≤ 3) (hx : x ≤ 8) (hk : k ≤ 17)
    (H : ∀ r tn gn le a8 a9 a10 a11 a12 a13 a14 a15, (r = 0 ↔ fd_Q c (fd_B pr) st a2 a4 a6 a7 k (fd_one s) (nI x)) → post r (nI c, pr, tn, gn, le, pk, a1, a2, a3, a4, a5, a6, a7, a8, a9, a10, a11, a12, a13, a14, a15, a16, a17)) :
    ∀ (d q : Nat) (le : Int32) (a8 a9 a10 a11 a12 a13 a14 a15 : Nat → Int32), q + d = k → fd_g0 st (fd_pre st 4) a10 a11 → fd_g1 c (fd_B pr) st a2 a4 a6 a7 (fd_pos (fd_B pr) c) a8 a9 a10 a11 → (∀ j, fd_pos (fd_B pr) c ≤ j → j < fd_pos (fd_B pr) c + q → a8 j = fd_one s ∧ a9 j = nI x) →
      wX_shortage_44 post ((1 : Int32) <<< (nI s &&& 31)) (nI x) (nI k) (d + 1) (nI q) (nI c) pr (nI (fd_pos (fd_B pr) c + q)) (nI (fd_pre st 4 + fd_pos (fd_B pr) c)) le pk a1 a2 a3 a4 a5 a6 a7 a8 a9 a10 a11 a12 a13 a14 a15 a16 a17 := by
  have hpre := fd_pre4 hst
  have hpos := fd_pos_le (fd_B pr) c
  intro d
  induction d with
  | zero =>
    intro q le a8 a9 a10 a11 a12 a13 a14 a15 hq q0 q1 q2
    have e : q = k := by omega
    rw [e] at q2 ⊢
    refine br_t (nI_le (Nat.le_refl k) (by omega)) ?_
    refine fd_unmatched (by omega) (by omega) (fun r le' b12 b13 b14 b15 hr => ?_)
    exact H r _ _ le' a8 a9 a10 a11 b12 b13 b14 b15 (hr.trans (fd_GQ q0 q1 q2))
  | succ d ih =>
    intro q le a8 a9 a10 a11 a12 a13 a14 a15 hq q0 q1 q2
    refine br_f (nI_ge (by omega) (by omega)) ?_
    refine fd_addTaker (x' := fd_one s) (y' := nI x) (by omega) rfl (fd_nb (by omega)) ?_
    obtain ⟨t1, t2⟩ := fd_add_s q1 q2
    exact nm_r (nI_1 q) (ih (q + 1) le _ _ a10 a11 a12 a13 a14 a15 (by omega) q0 t1 t2)
theorem fd_ask_q {c : Nat} {B : Nat → Bool} {st : Nat → Nat} {pT bT aP aB aP' aB' : Nat → Int32} {k : Nat} {xs xt : Int32} (h6 : ∀ i, i < c → aP' i = aP i) (h7 : ∀ i, i < c → aB' i = aB i) : fd_Q c B st pT bT aP' aB' k xs xt ↔ fd_Q c B st pT bT aP aB k xs xt :=
  fd_Q_congr4 (fun _ _ _ => rfl) (fun _ _ _ => rfl) (fun i hi _ => h6 i hi) (fun i hi _ => h7 i hi)
theorem fd_shl : ∀ s, s < 4 → (1 : Int32) <<< (nI s &&& 31) = nI (2 ^ s) ∧ 1 ≤ 2 ^ s ∧ 2 ^ s ≤ 15 := by decide +kernel
theorem fd_shortage {post : Int32 → St2 → Prop} {pr tn gn le pk : Int32} {a1 a2 a3 a4 a5 a6 a7 a8 a9 a10 a11 a12 a13 a14 a15 a16 a17 : Nat → Int32} {c s x k : Nat} {st : Nat → Nat} (w : fd_W c st a1 a2 a3 a4 a5) (hs : s < 4) (hx : x ≤ 8) (hk : k ≤ 9)
    (H : ∀ r tn gn le a6 a7 a8 a9 a10 a11 a12 a13 a14 a15, (r = 0 ↔ fd_Q c (fd_B pr) st a2 a4 a1 a3 k (fd_one s) (nI x)) → post r (nI c, pr, tn, gn, le, pk, a1, a2, a3, a4, a5, a6, a7, a8, a9, a10, a11, a12, a13, a14, a15, a16, a17)) :
    wpX_shortage post (nI c, pr, tn, gn, le, pk, a1, a2, a3, a4, a5, a6, a7, a8, a9, a10, a11, a12, a13, a14, a15, a16, a17) ((1 : Int32) <<< (nI s &&& 31)) (nI x) (nI k) := by
  obtain ⟨hc, hst, h5, s1, s2, s3, s4⟩ := w
  obtain ⟨v1, v2, v3⟩ := fd_shl s hs
  unfold wpX_shortage
  dsimp only
  refine br_f (by rw [v1]; exact nI_nlt (b := 1) v2 (by omega)) (br_f (by rw [v1]; exact nI_nlt (a := 15) v3 (by decide)) (br_f (nI_pos (by omega)) (br_f (nI_nlt (a := 8) hx (by decide)) (br_f (nI_pos (by omega)) (br_t (nI_le (b := 9) hk (by decide)) ?_)))))
  refine fd_askPlainly hc s1 s3 (fun b6 b7 q6 q7 => ?_)
  have s6 : ∀ i, i < c → fd_set (b6 i) := fun i hi => by rw [q6 i hi]; exact s1 i hi
  have s7 : ∀ i, i < c → fd_set (b7 i) := fun i hi => by rw [q7 i hi]; exact s3 i hi
  refine fd_gather hc hst h5 s2 s4 s6 s7 (fun b8 b9 b10 b11 q0 q1 => ?_)
  refine Exists.intro (k + 1) ?_
  refine fd_short_44 (s := s) (x := x) (k := k) (a6 := b6) (a7 := b7) hc hst hx (by omega) ?_ k 0 le b8 b9 b10 b11 a12 a13 a14 a15 (by omega) q0 q1 (fun j h1 h2 => absurd h1 (by omega))
  intro r tn gn le c8 c9 c10 c11 c12 c13 c14 c15 hr
  exact H r tn gn le b6 b7 c8 c9 c10 c11 c12 c13 c14 c15 (hr.trans (fd_ask_q q6 q7))
theorem fd_spare_52 {post : Int32 → St2 → Prop} {pr pk : Int32} {a1 a2 a3 a4 a5 a6 a7 a16 a17 : Nat → Int32} {c s x k : Nat} {x3 : Int32} {st : Nat → Nat} {J : Int32 → Int32 → Int32 → Int32 → Int32 → Int32 → Int32 → Int32 → Int32 → (Nat → Int32) → (Nat → Int32) → (Nat → Int32) → (Nat → Int32) → (Nat → Int32) → (Nat → Int32) → (Nat → Int32) → (Nat → Int32) → (Nat → Int32) → (Nat → Int32) → (Nat → Int32) → (Nat → Int32) → (Nat → Int32) → (Nat → Int32) → (Nat → Int32) → (Nat → Int32) → (Nat → Int32) → Prop} (hc : c ≤ 5) (hst : ∀ s, s < 4 → st s ≤ 3) (hx : x ≤ 8) (hk : k ≤ 17)
    (H0 : ∀ tn gn le a8 a9 a10 a11 a12 a13 a14 a15, ¬ fd_Q c (fd_B pr) st a2 a4 a6 a7 k (fd_one s) (nI x) → J x3 0 (nI (k + 1)) (nI c) pr tn gn le pk a1 a2 a3 a4 a5 a6 a7 a8 a9 a10 a11 a12 a13 a14 a15 a16 a17)
    (H1 : ∀ tn gn le a8 a9 a10 a11 a12 a13 a14 a15, fd_Q c (fd_B pr) st a2 a4 a6 a7 k (fd_one s) (nI x) → J (nI k) 1 (nI (k + 1)) (nI c) pr tn gn le pk a1 a2 a3 a4 a5 a6 a7 a8 a9 a10 a11 a12 a13 a14 a15 a16 a17) :
    ∀ (d q : Nat) (le : Int32) (a8 a9 a10 a11 a12 a13 a14 a15 : Nat → Int32), q + d = k → fd_g0 st (fd_pre st 4) a10 a11 → fd_g1 c (fd_B pr) st a2 a4 a6 a7 (fd_pos (fd_B pr) c) a8 a9 a10 a11 → (∀ j, fd_pos (fd_B pr) c ≤ j → j < fd_pos (fd_B pr) c + q → a8 j = fd_one s ∧ a9 j = nI x) →
      wX_spare_52 post J (nI s) (nI x) x3 (nI k) (d + 1) (nI q) (nI c) pr (nI (fd_pos (fd_B pr) c + q)) (nI (fd_pre st 4 + fd_pos (fd_B pr) c)) le pk a1 a2 a3 a4 a5 a6 a7 a8 a9 a10 a11 a12 a13 a14 a15 a16 a17 := by
  have hpre := fd_pre4 hst
  have hpos := fd_pos_le (fd_B pr) c
  intro d
  induction d with
  | zero =>
    intro q le a8 a9 a10 a11 a12 a13 a14 a15 hq q0 q1 q2
    have e : q = k := by omega
    rw [e] at q2 ⊢
    refine br_t (nI_le (Nat.le_refl k) (by omega)) ?_
    refine fd_unmatched (by omega) (by omega) (fun r le' b12 b13 b14 b15 hr => ?_)
    have hr' := hr.trans (fd_GQ q0 q1 q2)
    refine br_c (fun z => ?_) (fun z => ?_)
    · exact br_f (by decide) (nm_r (nI_1 k) (H1 _ _ le' a8 a9 a10 a11 b12 b13 b14 b15 (hr'.mp z)))
    · exact br_t rfl (nm_r (nI_1 k) (H0 _ _ le' a8 a9 a10 a11 b12 b13 b14 b15 (fun y => z (hr'.mpr y))))
  | succ d ih =>
    intro q le a8 a9 a10 a11 a12 a13 a14 a15 hq q0 q1 q2
    refine br_f (nI_ge (by omega) (by omega)) ?_
    refine fd_addTaker (x' := fd_one s) (y' := nI x) (by omega) rfl (fd_nb (by omega)) ?_
    obtain ⟨t1, t2⟩ := fd_add_s q1 q2
    exact nm_r (nI_1 q) (ih (q + 1) le _ _ a10 a11 a12 a13 a14 a15 (by omega) q0 t1 t2)
theorem fd_spare_29 {post : Int32 → St2 → Prop} {pr pk : Int32} {a1 a2 a3 a4 a5 a16 a17 : Nat → Int32} {c s x : Nat} {st : Nat → Nat} (w : fd_W c st a1 a2 a3 a4 a5) (hx : x ≤ 8)
    (H : ∀ (n : Nat) tn gn le a6 a7 a8 a9 a10 a11 a12 a13 a14 a15, n ≤ 17 → fd_Q c (fd_B pr) st a2 a4 a1 a3 n (fd_one s) (nI x) → (n < 17 → ¬ fd_Q c (fd_B pr) st a2 a4 a1 a3 (n + 1) (fd_one s) (nI x)) → post (nI n) (nI c, pr, tn, gn, le, pk, a1, a2, a3, a4, a5, a6, a7, a8, a9, a10, a11, a12, a13, a14, a15, a16, a17)) :
    ∀ (d m : Nat) (tn gn le : Int32) (a6 a7 a8 a9 a10 a11 a12 a13 a14 a15 : Nat → Int32), m + d = 17 → fd_Q c (fd_B pr) st a2 a4 a1 a3 m (fd_one s) (nI x) →
      wX_spare_29 post (nI s) (nI x) (d + 1) (nI m) 1 (nI (m + 1)) (nI c) pr tn gn le pk a1 a2 a3 a4 a5 a6 a7 a8 a9 a10 a11 a12 a13 a14 a15 a16 a17 := by
  obtain ⟨hc, hst, h5, s1, s2, s3, s4⟩ := w
  intro d
  induction d with
  | zero =>
    intro m tn gn le a6 a7 a8 a9 a10 a11 a12 a13 a14 a15 hm hq
    exact br_t (nI_lt (a := 17) (by omega) (by omega)) (H m tn gn le a6 a7 a8 a9 a10 a11 a12 a13 a14 a15 (by omega) hq (fun z => absurd z (by omega)))
  | succ d ih =>
    intro m tn gn le a6 a7 a8 a9 a10 a11 a12 a13 a14 a15 hm hq
    refine br_f (nI_nlt (a := 17) (by omega) (by decide)) (br_f (by decide) ?_)
    refine fd_askPlainly hc s1 s3 (fun b6 b7 q6 q7 => ?_)
    have s6 : ∀ i, i < c → fd_set (b6 i) := fun i hi => by rw [q6 i hi]; exact s1 i hi
    have s7 : ∀ i, i < c → fd_set (b7 i) := fun i hi => by rw [q7 i hi]; exact s3 i hi
    refine fd_gather hc hst h5 s2 s4 s6 s7 (fun b8 b9 b10 b11 q0 q1 => ?_)
    refine Exists.intro (m + 1 + 1) ?_
    refine fd_spare_52 (s := s) (x := x) (k := m + 1) (a6 := b6) (a7 := b7) hc hst hx (by omega) ?_ ?_ (m + 1) 0 le b8 b9 b10 b11 a12 a13 a14 a15 (by omega) q0 q1 (fun j h1 h2 => absurd h1 (by omega))
    · intro tn gn le c8 c9 c10 c11 c12 c13 c14 c15 hn
      have P := H m tn gn le b6 b7 c8 c9 c10 c11 c12 c13 c14 c15 (by omega) hq (fun _ q => hn ((fd_ask_q q6 q7).mpr q))
      exact br_c (fun _ => P) (fun _ => br_t rfl P)
    · intro tn gn le c8 c9 c10 c11 c12 c13 c14 c15 hy
      exact ih (m + 1) tn gn le b6 b7 c8 c9 c10 c11 c12 c13 c14 c15 (by omega) ((fd_ask_q q6 q7).mp hy)
theorem fd_spare {post : Int32 → St2 → Prop} {pr tn gn le pk : Int32} {a1 a2 a3 a4 a5 a6 a7 a8 a9 a10 a11 a12 a13 a14 a15 a16 a17 : Nat → Int32} {c s x : Nat} {st : Nat → Nat} (w : fd_W c st a1 a2 a3 a4 a5) (hq : fd_Q c (fd_B pr) st a2 a4 a1 a3 0 0 0) (hs : s < 4) (hx : x ≤ 8)
    (H : ∀ (n : Nat) tn gn le a6 a7 a8 a9 a10 a11 a12 a13 a14 a15, n ≤ 17 → fd_Q c (fd_B pr) st a2 a4 a1 a3 n (fd_one s) (nI x) → (n < 17 → ¬ fd_Q c (fd_B pr) st a2 a4 a1 a3 (n + 1) (fd_one s) (nI x)) → post (nI n) (nI c, pr, tn, gn, le, pk, a1, a2, a3, a4, a5, a6, a7, a8, a9, a10, a11, a12, a13, a14, a15, a16, a17)) :
    wpX_spare post (nI c, pr, tn, gn, le, pk, a1, a2, a3, a4, a5, a6, a7, a8, a9, a10, a11, a12, a13, a14, a15, a16, a17) (nI s) (nI x) := by
  unfold wpX_spare
  dsimp only
  exact br_f (nI_pos (by omega)) (br_f (nI_nlt (a := 3) (by omega) (by decide)) (br_f (nI_pos (by omega)) (br_t (nI_le (b := 8) hx (by decide)) (Exists.intro (17 + 1) (fd_spare_29 w hx H 17 0 tn gn le a6 a7 a8 a9 a10 a11 a12 a13 a14 a15 (by omega) (fd_Q_0 hq))))))
theorem fd_spares_32 {post : Int32 → St2 → Prop} {pr pk : Int32} {a1 a2 a3 a4 a5 a16 a17 : Nat → Int32} {c s x n : Nat} {st : Nat → Nat} {J : Int32 → Int32 → Int32 → Int32 → Int32 → Int32 → Int32 → Int32 → (Nat → Int32) → (Nat → Int32) → (Nat → Int32) → (Nat → Int32) → (Nat → Int32) → (Nat → Int32) → (Nat → Int32) → (Nat → Int32) → (Nat → Int32) → (Nat → Int32) → (Nat → Int32) → (Nat → Int32) → (Nat → Int32) → (Nat → Int32) → (Nat → Int32) → (Nat → Int32) → (Nat → Int32) → Prop} (w : fd_W c st a1 a2 a3 a4 a5) (hs : s < 4) (hx : x ≤ 8) (hn : n ≤ 17)
    (h1 : fd_Q c (fd_B pr) st a2 a4 a1 a3 n (fd_one s) (nI x)) (h2 : n < 17 → ¬ fd_Q c (fd_B pr) st a2 a4 a1 a3 (n + 1) (fd_one s) (nI x))
    (HJ : ∀ tn gn le a6 a7 a8 a9 a10 a11 a12 a13 a14 a15, J (nI n) (nI (x + 1)) (nI c) pr tn gn le pk a1 a2 a3 a4 a5 a6 a7 a8 a9 a10 a11 a12 a13 a14 a15 a16 a17) :
    ∀ (d k : Nat) (tn gn le : Int32) (a6 a7 a8 a9 a10 a11 a12 a13 a14 a15 : Nat → Int32), k + d = 10 → wL_spares_32 post J (nI s) (nI n) (nI x) (nI n) (d + 1) (nI k) (nI c) pr tn gn le pk a1 a2 a3 a4 a5 a6 a7 a8 a9 a10 a11 a12 a13 a14 a15 a16 a17 := by
  intro d
  induction d with
  | zero =>
    intro k tn gn le a6 a7 a8 a9 a10 a11 a12 a13 a14 a15 hk
    exact br_t (nI_lt (a := 9) (by omega) (by omega)) (nm_r (nI_1 x) (HJ tn gn le a6 a7 a8 a9 a10 a11 a12 a13 a14 a15))
  | succ d ih =>
    intro k tn gn le a6 a7 a8 a9 a10 a11 a12 a13 a14 a15 hk
    refine br_f (nI_nlt (a := 9) (by omega) (by decide)) ?_
    refine fd_shortage w hs hx (by omega) (fun r tn gn le b6 b7 b8 b9 b10 b11 b12 b13 b14 b15 hr => ?_)
    have nxt := ih (k + 1) tn gn le b6 b7 b8 b9 b10 b11 b12 b13 b14 b15 (by omega)
    by_cases hkn : k ≤ n
    · have z : r = 0 := hr.mpr (fd_Q_drop hkn h1)
      exact br_t z (br_f (nI_nlt hkn (by omega)) (br_t rfl (nm_r (nI_1 k) nxt)))
    · have z : ¬ r = 0 := fun y => h2 (by omega) (fd_Q_drop (by omega) (hr.mp y))
      exact br_f z (br_t (nI_lt (by omega) (by omega)) (br_t rfl (nm_r (nI_1 k) nxt)))
theorem fd_spares {post : Int32 → St2 → Prop} {pr tn gn le pk : Int32} {a1 a2 a3 a4 a5 a6 a7 a8 a9 a10 a11 a12 a13 a14 a15 a16 a17 : Nat → Int32} {c s : Nat} {st : Nat → Nat} (w : fd_W c st a1 a2 a3 a4 a5) (hq : fd_Q c (fd_B pr) st a2 a4 a1 a3 0 0 0) (hs : s < 4)
    (H : ∀ tn gn le a6 a7 a8 a9 a10 a11 a12 a13 a14 a15, post 1 (nI c, pr, tn, gn, le, pk, a1, a2, a3, a4, a5, a6, a7, a8, a9, a10, a11, a12, a13, a14, a15, a16, a17)) : wpL_spares post (nI c, pr, tn, gn, le, pk, a1, a2, a3, a4, a5, a6, a7, a8, a9, a10, a11, a12, a13, a14, a15, a16, a17) (nI s) := by
  have main : ∀ (d x l : Nat) (tn gn le : Int32) (a6 a7 a8 a9 a10 a11 a12 a13 a14 a15 : Nat → Int32), x + d = 9 → l ≤ 17 → fd_Q c (fd_B pr) st a2 a4 a1 a3 l (fd_one s) (nI x) → wL_spares_4 post (nI s) (d + 1) (nI l) (nI x) (nI c) pr tn gn le pk a1 a2 a3 a4 a5 a6 a7 a8 a9 a10 a11 a12 a13 a14 a15 a16 a17 := by
    intro d
    induction d with
    | zero =>
      intro x l tn gn le a6 a7 a8 a9 a10 a11 a12 a13 a14 a15 hx hl hql
      exact br_t (nI_lt (a := 8) (by omega) (by omega)) (H tn gn le a6 a7 a8 a9 a10 a11 a12 a13 a14 a15)
    | succ d ih =>
      intro x l tn gn le a6 a7 a8 a9 a10 a11 a12 a13 a14 a15 hx hl hql
      refine br_f (nI_nlt (a := 8) (by omega) (by decide)) ?_
      refine fd_spare w hq hs (by omega) (fun n tn gn le b6 b7 b8 b9 b10 b11 b12 b13 b14 b15 hn h1 h2 => ?_)
      have hln : l ≤ n := by
        rcases Nat.lt_or_ge n l with z | z
        · exact absurd (fd_Q_drop z hql) (h2 (by omega))
        · exact z
      refine br_t (nI_le hln (by omega)) (Exists.intro (10 + 1) ?_)
      refine fd_spares_32 w hs (by omega) hn h1 h2 ?_ 10 0 tn gn le b6 b7 b8 b9 b10 b11 b12 b13 b14 b15 (by omega)
      intro tn gn le c6 c7 c8 c9 c10 c11 c12 c13 c14 c15
      exact ih (x + 1) n tn gn le c6 c7 c8 c9 c10 c11 c12 c13 c14 c15 (by omega) hn (fd_Q_time (nI_le (by omega) (by omega)) h1)
  exact Exists.intro (9 + 1) (main 9 0 0 tn gn le a6 a7 a8 a9 a10 a11 a12 a13 a14 a15 (by omega) (by omega) (fd_Q_0 hq))
end
section
/-! the walks of the law's plans, of the constructor and of the law -/
theorem fd_PV_pick {c i : Nat} {B : Nat → Bool} {st : Nat → Nat} {a1 a2 a3 a4 a5 a16 a17 : Nat → Int32} (w : fd_W c st a1 a2 a3 a4 a5) (hi : i < c) (hb : B i = true) (h : fd_PV c B st a1 a2 a3 a4 a16 a17) :
    ∃ p, p < 4 ∧ a16 i = nI p ∧ fd_B (a1 i) p = true ∧ fd_Q c B st a2 a4 (upd a1 i (fd_one p)) a3 0 0 0 ∧ ((∀ j, j < i → B j = false) → ∀ s, s < p → ¬ (fd_B (a1 i) s = true ∧ fd_Q c B st a2 a4 (upd a1 i (fd_one s)) a3 0 0 0)) := by
  obtain ⟨hc, hst, h5, s1, s2, s3, s4⟩ := w
  obtain ⟨pp, pb, p1, p2, p3⟩ := h
  obtain ⟨q1, q2, q3, q4, q5, q6⟩ := p1 i hi hb
  refine ⟨pp i, q1, q3, q5, fd_Q_wide (fun j hj hbj => ?_) (fun j hj hbj => ?_) p2, fun hf s hs t => p3 i hi hb hf s hs t.1 t.2⟩
  · obtain ⟨r1, r2, r3, r4, r5, r6⟩ := p1 j hj hbj
    by_cases e : j = i
    · rw [e, pk_us]
      exact Int32.and_self
    · rw [pk_un e]
      exact fd_bit_sub (s1 j hj) r1 r5
  · obtain ⟨r1, r2, r3, r4, r5, r6⟩ := p1 j hj hbj
    exact fd_bit_sub (s3 j hj) r2 r6
theorem fd_PV_back {c i : Nat} {B : Nat → Bool} {st : Nat → Nat} {a1 a2 a3 a4 a5 a16 a17 : Nat → Int32} (w : fd_W c st a1 a2 a3 a4 a5) (hi : i < c) (hb : B i = true) (h : fd_PV c B st a1 a2 a3 a4 a16 a17) :
    ∃ p, p < 4 ∧ a17 i = nI p ∧ fd_B (a3 i) p = true ∧ fd_Q c B st a2 a4 a1 (upd a3 i (fd_one p)) 0 0 0 := by
  obtain ⟨hc, hst, h5, s1, s2, s3, s4⟩ := w
  obtain ⟨pp, pb, p1, p2, p3⟩ := h
  obtain ⟨q1, q2, q3, q4, q5, q6⟩ := p1 i hi hb
  refine ⟨pb i, q2, q4, q6, fd_Q_wide (fun j hj hbj => ?_) (fun j hj hbj => ?_) p2⟩
  · obtain ⟨r1, r2, r3, r4, r5, r6⟩ := p1 j hj hbj
    exact fd_bit_sub (s1 j hj) r1 r5
  · obtain ⟨r1, r2, r3, r4, r5, r6⟩ := p1 j hj hbj
    by_cases e : j = i
    · rw [e, pk_us]
      exact Int32.and_self
    · rw [pk_un e]
      exact fd_bit_sub (s3 j hj) r2 r6
theorem fd_plans_62 {post : Int32 → St2 → Prop} {pr pk : Int32} {a1 a2 a3 a4 a5 a16 a17 : Nat → Int32} {c i p : Nat} {fl x2 : Int32} {st : Nat → Nat} {J : Int32 → Int32 → Int32 → Int32 → Int32 → Int32 → Int32 → Int32 → (Nat → Int32) → (Nat → Int32) → (Nat → Int32) → (Nat → Int32) → (Nat → Int32) → (Nat → Int32) → (Nat → Int32) → (Nat → Int32) → (Nat → Int32) → (Nat → Int32) → (Nat → Int32) → (Nat → Int32) → (Nat → Int32) → (Nat → Int32) → (Nat → Int32) → (Nat → Int32) → (Nat → Int32) → Prop} (w : fd_W c st a1 a2 a3 a4 a5) (hi : i < c) (hb : fd_B pr i = true) (hp : p < 4)
    (hf : fl = 0 ∨ ∀ s, s < p → ¬ (fd_B (a1 i) s = true ∧ fd_Q c (fd_B pr) st a2 a4 (upd a1 i (fd_one s)) a3 0 0 0))
    (HJ : ∀ tn gn le a6 a7 a8 a9 a10 a11 a12 a13 a14 a15, J 0 (nI (i + 1)) (nI c) pr tn gn le pk a1 a2 a3 a4 a5 a6 a7 a8 a9 a10 a11 a12 a13 a14 a15 a16 a17) :
    ∀ (d s : Nat) (tn gn le : Int32) (a6 a7 a8 a9 a10 a11 a12 a13 a14 a15 : Nat → Int32), s + d = p → wL_plans_62 post J fl x2 (nI i) (nI p) (d + 1) (nI s) (nI c) pr tn gn le pk a1 a2 a3 a4 a5 a6 a7 a8 a9 a10 a11 a12 a13 a14 a15 a16 a17 := by
  have hc := w.1
  intro d
  induction d with
  | zero =>
    intro s tn gn le a6 a7 a8 a9 a10 a11 a12 a13 a14 a15 hs
    exact br_t (nI_le (by omega) (by omega)) (nm_r (nI_1 i) (HJ tn gn le a6 a7 a8 a9 a10 a11 a12 a13 a14 a15))
  | succ d ih =>
    intro s tn gn le a6 a7 a8 a9 a10 a11 a12 a13 a14 a15 hs
    refine br_f (nI_ge (by omega) (by omega)) (br_c (fun z => nm_r (nI_1 i) (HJ tn gn le a6 a7 a8 a9 a10 a11 a12 a13 a14 a15)) (fun z => ?_))
    have hn : ∀ s, s < p → ¬ (fd_B (a1 i) s = true ∧ fd_Q c (fd_B pr) st a2 a4 (upd a1 i (fd_one s)) a3 0 0 0) := by
      rcases hf with e | e
      · exact absurd e z
      · exact e
    refine fd_couldPick w hi hb (show s < 4 by omega) ?_ ?_
    · intro tn gn le b6 b7 b8 b9 b10 b11 b12 b13 b14 b15 _
      exact br_t rfl (nm_r (nI_1 s) (ih (s + 1) tn gn le b6 b7 b8 b9 b10 b11 b12 b13 b14 b15 (by omega)))
    · intro tn gn le b6 b7 b8 b9 b10 b11 b12 b13 b14 b15 t1 t2
      exact absurd ⟨t1, t2⟩ (hn s (by omega))
theorem fd_bit1 {x : Int32} {i : Nat} (h : ¬ ((x >>> (nI i &&& 31)) &&& 1) = 1) : fd_B x i = false := by
  obtain ⟨j, hj, e⟩ := pk_andE (x >>> (nI i &&& 31)) (m := 1) 1 (by decide)
  refine fd_B_f ?_
  rw [e] at h ⊢
  have hj' : j = 0 ∨ j = 1 := by omega
  rcases hj' with z | z
  · rw [z]
    rfl
  · rw [z] at h
    exact absurd rfl h
theorem fd_plans {post : Int32 → St2 → Prop} {pr tn gn le pk : Int32} {a1 a2 a3 a4 a5 a6 a7 a8 a9 a10 a11 a12 a13 a14 a15 a16 a17 : Nat → Int32} {c : Nat} {st : Nat → Nat} (I : fd_I c pr st pk a1 a2 a3 a4 a5 a16 a17)
    (H : ∀ tn gn le pk a6 a7 a8 a9 a10 a11 a12 a13 a14 a15 a16 a17, fd_I c pr st pk a1 a2 a3 a4 a5 a16 a17 → post 1 (nI c, pr, tn, gn, le, pk, a1, a2, a3, a4, a5, a6, a7, a8, a9, a10, a11, a12, a13, a14, a15, a16, a17)) : wpL_plans post (nI c, pr, tn, gn, le, pk, a1, a2, a3, a4, a5, a6, a7, a8, a9, a10, a11, a12, a13, a14, a15, a16, a17) := by
  have main : ∀ (d i : Nat) (fl tn gn le pk : Int32) (a6 a7 a8 a9 a10 a11 a12 a13 a14 a15 a16 a17 : Nat → Int32), i + d = 5 → (fl = 0 ∨ ∀ j, j < i → fd_B pr j = false) → fd_I c pr st pk a1 a2 a3 a4 a5 a16 a17 → wL_plans_9 post pr (d + 1) fl (nI i) (nI c) pr tn gn le pk a1 a2 a3 a4 a5 a6 a7 a8 a9 a10 a11 a12 a13 a14 a15 a16 a17 := by
    intro d
    induction d with
    | zero =>
      intro i fl tn gn le pk a6 a7 a8 a9 a10 a11 a12 a13 a14 a15 a16 a17 hi hfl I
      exact br_t (nI_le (a := 5) (by omega) (by omega)) (H tn gn le pk a6 a7 a8 a9 a10 a11 a12 a13 a14 a15 a16 a17 I)
    | succ d ih =>
      intro i fl tn gn le pk a6 a7 a8 a9 a10 a11 a12 a13 a14 a15 a16 a17 hi hfl I
      have w := I.1
      have hc := w.1
      refine br_f (nI_ge (b := 5) (by omega) (by decide)) (br_c (fun z => ?_) (fun z => ?_))
      · have hb : fd_B pr i = true := fd_B_t (by rw [z]; decide)
        have hic : i < c := I.2.2.1 i (by omega) hb
        refine fd_pickupOf I hic hb (fun tn gn le b6 b7 b8 b9 b10 b11 b12 b13 b14 b15 b16 b17 hv => ?_)
        obtain ⟨p, hp, ep, hbp, hqp, hfirst⟩ := fd_PV_pick w hic hb hv
        dsimp only
        rw [ep]
        have I1 : fd_I c pr st 1 a1 a2 a3 a4 a5 b16 b17 := ⟨w, I.2.1, I.2.2.1, I.2.2.2.1, I.2.2.2.2.1, Or.inr ⟨rfl, hv⟩⟩
        refine fd_returnOf I1 hic hb (fun tn gn le c6 c7 c8 c9 c10 c11 c12 c13 c14 c15 c16 c17 hv' => ?_)
        obtain ⟨q, hq, eq, hbq, hqq⟩ := fd_PV_back w hic hb hv'
        have I2 : fd_I c pr st 1 a1 a2 a3 a4 a5 c16 c17 := ⟨w, I.2.1, I.2.2.1, I.2.2.2.1, I.2.2.2.2.1, Or.inr ⟨rfl, hv'⟩⟩
        dsimp only
        rw [eq]
        refine fd_couldPick w hic hb hp ?_ ?_
        · intro tn gn le d6 d7 d8 d9 d10 d11 d12 d13 d14 d15 hn
          exact absurd ⟨hbp, hqp⟩ hn
        · intro tn gn le d6 d7 d8 d9 d10 d11 d12 d13 d14 d15 _ _
          refine br_f (by decide) ?_
          refine fd_couldReturn w hic hb hq hbq hqq ?_
          intro tn gn le e6 e7 e8 e9 e10 e11 e12 e13 e14 e15
          refine br_f (by decide) (Exists.intro (p + 1) ?_)
          refine fd_plans_62 w hic hb hp ?_ ?_ p 0 tn gn le e6 e7 e8 e9 e10 e11 e12 e13 e14 e15 (by omega)
          · rcases hfl with y | y
            · exact Or.inl y
            · exact Or.inr (hfirst y)
          · intro tn gn le f6 f7 f8 f9 f10 f11 f12 f13 f14 f15
            exact ih (i + 1) 0 tn gn le 1 f6 f7 f8 f9 f10 f11 f12 f13 f14 f15 c16 c17 (by omega) (Or.inl rfl) I2
      · have hb : fd_B pr i = false := fd_bit1 z
        refine nm_r (nI_1 i) (ih (i + 1) fl tn gn le pk a6 a7 a8 a9 a10 a11 a12 a13 a14 a15 a16 a17 (by omega) ?_ I)
        rcases hfl with y | y
        · exact Or.inl y
        · refine Or.inr (fun j hj => ?_)
          by_cases e : j = i
          · rw [e]
            exact hb
          · exact y j (by omega)
  unfold wpL_plans wpX_bookings
  exact Exists.intro (5 + 1) (main 5 0 1 tn gn le pk a6 a7 a8 a9 a10 a11 a12 a13 a14 a15 a16 a17 (by omega) (Or.inr (fun j hj => absurd hj (by omega))) I)
theorem fd_clamp {post : Int32 → Prop} {u : St1} {n : Nat} (hn : n ≤ 3) (H : post (nI n)) : wpX_clamp post u (nI n) := by
  unfold wpX_clamp
  exact br_t (nI_pos' (by omega)) (br_t (nI_le (b := 3) hn (by decide)) H)
theorem fd_pos_0 {B : Nat → Bool} : ∀ c, (∀ i, i < c → B i = false) → fd_pos B c = 0 := by
  intro c
  induction c with
  | zero =>
    intro _
    rfl
  | succ c ih =>
    intro h
    rw [fd_pos_f (h c (by omega))]
    exact ih (fun i hi => h i (by omega))
theorem fd_B0 : ∀ i, i < 5 → fd_B 0 i = false := by decide +kernel
/-- the new desk -/
theorem fd_new {c a b : Nat} (hc : c ≤ 5) (ha : a ≤ 3) (hb : b ≤ 3) : ∃ st : Nat → Nat, fd_I c 0 st 0 (fun _ => 0) (fun _ => 0) (fun _ => 0) (fun _ => 0) (upd (upd (upd (fun _ => 0) 0 (nI a)) 1 (nI b)) 2 (nI 1)) (fun _ => 0) (fun _ => 0) := by
  refine ⟨fd_up (fd_up (fd_up (fun _ => 0) 0 a) 1 b) 2 1, ⟨hc, fun s hs => ?_, fun s hs => ?_, fun _ _ => ⟨0, by omega, rfl⟩, fun _ _ => ⟨0, by omega, rfl⟩, fun _ _ => ⟨0, by omega, rfl⟩, fun _ _ => ⟨0, by omega, rfl⟩⟩, ⟨0, by omega, rfl⟩, fun i hi h => ?_, fun i hi h => ?_, ?_, Or.inl rfl⟩
  · by_cases e2 : s = 2
    · rw [e2, fd_us]
      omega
    · rw [fd_un e2]
      by_cases e1 : s = 1
      · rw [e1, fd_us]
        exact hb
      · rw [fd_un e1]
        by_cases e0 : s = 0
        · rw [e0, fd_us]
          exact ha
        · rw [fd_un e0]
          exact Nat.zero_le 3
  · by_cases e2 : s = 2
    · rw [e2, fd_us, pk_us]
    · rw [fd_un e2, pk_un e2]
      by_cases e1 : s = 1
      · rw [e1, fd_us, pk_us]
      · rw [fd_un e1, pk_un e1]
        by_cases e0 : s = 0
        · rw [e0, fd_us, pk_us]
        · rw [fd_un e0, pk_un e0]
          rfl
  · rw [fd_B0 i hi] at h
    exact absurd h (by decide)
  · rw [fd_B0 i (by omega)] at h
    exact absurd h (by decide)
  · have e := fd_pos_0 (B := fd_B 0) c (fun i hi => fd_B0 i (by omega))
    refine ⟨fun _ => 0, fun k hk => ?_, fun i j hi => ?_⟩
    · rw [e] at hk
      exact absurd hk (by omega)
    · rw [e] at hi
      exact absurd hi (by omega)
theorem fd_init {post : St2 → Prop} {k a b : Nat} (hk : 1 ≤ k) (hk' : k ≤ 6) (ha : a ≤ 3) (hb : b ≤ 3)
    (H : ∀ (c : Nat) (st : Nat → Nat) a1 a2 a3 a4 a5 a6 a7 a8 a9 a10 a11 a12 a13 a14 a15 a16 a17, fd_I c 0 st 0 a1 a2 a3 a4 a5 a16 a17 → post (nI c, 0, 0, 0, 0, 0, a1, a2, a3, a4, a5, a6, a7, a8, a9, a10, a11, a12, a13, a14, a15, a16, a17)) :
    wpX_init post 17 260 (0, 0, 0, 0, 0, 0) (nI k) (nI a) (nI b) 1 := by
  have key : ∀ c, c ≤ 5 → wX_init_159 post 17 260 (nI a) (nI b) 1 (nI c) 17 260 0 0 0 0 0 0 (fun _ => 0) (fun _ => 0) (fun _ => 0) (fun _ => 0) (fun _ => 0) (fun _ => 0) (fun _ => 0) (fun _ => 0) (fun _ => 0) (fun _ => 0) (fun _ => 0) (fun _ => 0) (fun _ => 0) (fun _ => 0) (fun _ => 0) (fun _ => 0) (fun _ => 0) := by
    intro c hc
    obtain ⟨st, I⟩ := fd_new hc ha hb
    unfold wX_init_159
    refine fd_clamp ha ?_
    rw [fd_nb (k := a) (by omega)]
    refine nm_e (fd_clamp hb ?_)
    rw [fd_nb (k := b) (by omega)]
    refine nm_e (fd_clamp (n := 1) (by omega) ?_)
    rw [fd_nb (k := 1) (by omega)]
    exact nm_e (H c st _ _ _ _ _ _ _ _ _ _ _ _ _ _ _ _ _ I)
  unfold wpX_init
  dsimp only
  refine ⟨by omega, by omega, by omega, by omega, by omega, by omega, by omega, by omega, by omega, by omega, by omega, by omega, by omega, by omega, by omega, by omega, by omega, by omega, by omega, by omega, by omega, by omega, by omega, by omega, by omega, by omega, by omega, by omega, by omega, by omega, by omega, by omega, by omega, by omega, ?_⟩
  exact br_t (nI_le (a := 1) hk (by omega)) (pk_le k 5 (fun g => key k g) (fun g => key 5 (by omega)))
theorem fd_law_65 {xs : Nat → Int32} {L kc ks : Nat} (hL : L ≤ 260) : ∀ (d k c : Nat) (st : Nat → Nat) (pr tn gn le pk : Int32) (a1 a2 a3 a4 a5 a6 a7 a8 a9 a10 a11 a12 a13 a14 a15 a16 a17 : Nat → Int32), L ≤ k + d → k ≤ 263 → fd_I c pr st pk a1 a2 a3 a4 a5 a16 a17 →
      wL_law_65 (fun r => r = 1) L xs kc ks (d + 1) (nI k) (nI c) pr tn gn le pk a1 a2 a3 a4 a5 a6 a7 a8 a9 a10 a11 a12 a13 a14 a15 a16 a17 := by
  have fin : ∀ (s c : Nat) (st : Nat → Nat) (pr tn gn le pk : Int32) (a1 a2 a3 a4 a5 a6 a7 a8 a9 a10 a11 a12 a13 a14 a15 a16 a17 : Nat → Int32), s < 4 → fd_I c pr st pk a1 a2 a3 a4 a5 a16 a17 → wL_law_132 (fun r => r = 1) L xs (nI s) kc ks (nI c) pr tn gn le pk a1 a2 a3 a4 a5 a6 a7 a8 a9 a10 a11 a12 a13 a14 a15 a16 a17 := by
    intro s c st pr tn gn le pk a1 a2 a3 a4 a5 a6 a7 a8 a9 a10 a11 a12 a13 a14 a15 a16 a17 hs I
    unfold wL_law_132
    refine fd_spares I.1 I.2.2.2.2.1 hs ?_
    intro tn gn le b6 b7 b8 b9 b10 b11 b12 b13 b14 b15
    rfl
  have ex : ∀ (c : Nat) (st : Nat → Nat) (pr tn gn le pk : Int32) (a1 a2 a3 a4 a5 a6 a7 a8 a9 a10 a11 a12 a13 a14 a15 a16 a17 : Nat → Int32), fd_I c pr st pk a1 a2 a3 a4 a5 a16 a17 →
      (((Int32.ofNat L) ≤ 3 → wL_law_132 (fun r => r = 1) L xs 0 kc ks (nI c) pr tn gn le pk a1 a2 a3 a4 a5 a6 a7 a8 a9 a10 a11 a12 a13 a14 a15 a16 a17) ∧ (¬ (Int32.ofNat L) ≤ 3 → (vp_in ((Int32.ofNat L) - 1) L ∧ wL_law_132 (fun r => r = 1) L xs ((xs ((Int32.ofNat L) - 1).toNatClampNeg) &&& 3) kc ks (nI c) pr tn gn le pk a1 a2 a3 a4 a5 a6 a7 a8 a9 a10 a11 a12 a13 a14 a15 a16 a17))) := by
    intro c st pr tn gn le pk a1 a2 a3 a4 a5 a6 a7 a8 a9 a10 a11 a12 a13 a14 a15 a16 a17 I
    refine pk_le L 3 (fun _ => fin 0 c st pr tn gn le pk a1 a2 a3 a4 a5 a6 a7 a8 a9 a10 a11 a12 a13 a14 a15 a16 a17 (by omega) I) (fun g => ?_)
    have e : (Int32.ofNat L) - 1 = nI (L - 1) := by
      have t := nI_pred (L - 1)
      rw [show L - 1 + 1 = L by omega] at t
      exact t
    obtain ⟨s, hs, es⟩ := pk_andE (xs ((Int32.ofNat L) - 1).toNatClampNeg) (m := 3) 2 (by decide)
    rw [es, e]
    exact ⟨pk_in (L - 1) L (by omega), fin s c st pr tn gn le pk a1 a2 a3 a4 a5 a6 a7 a8 a9 a10 a11 a12 a13 a14 a15 a16 a17 hs I⟩
  intro d
  induction d with
  | zero =>
    intro k c st pr tn gn le pk a1 a2 a3 a4 a5 a6 a7 a8 a9 a10 a11 a12 a13 a14 a15 a16 a17 hk hk' I
    refine br_t ?_ (ex c st pr tn gn le pk a1 a2 a3 a4 a5 a6 a7 a8 a9 a10 a11 a12 a13 a14 a15 a16 a17 I)
    rw [show nI k + 2 = nI (k + 2) from nI_add k 2]
    exact nI_le (a := L) (by omega) (by omega)
  | succ d ih =>
    intro k c st pr tn gn le pk a1 a2 a3 a4 a5 a6 a7 a8 a9 a10 a11 a12 a13 a14 a15 a16 a17 hk hk' I
    have e1 : nI k + 1 = nI (k + 1) := nI_1 k
    have e2 : nI k + 2 = nI (k + 2) := nI_add k 2
    refine pk_le L (k + 2) (fun _ => ex c st pr tn gn le pk a1 a2 a3 a4 a5 a6 a7 a8 a9 a10 a11 a12 a13 a14 a15 a16 a17 I) (fun g => ?_) rfl e2
    refine ⟨pk_in k L (by omega), pk_in (k + 1) L (by omega) e1, pk_in (k + 2) L (by omega) e2, ?_⟩
    refine fd_turn I ?_
    intro st pr tn gn le pk b1 b2 b3 b4 b5 b6 b7 b8 b9 b10 b11 b12 b13 b14 b15 b16 b17 I'
    refine fd_plans I' ?_
    intro tn gn le pk c6 c7 c8 c9 c10 c11 c12 c13 c14 c15 c16 c17 I''
    exact br_f (by decide) (nm_r (nI_add k 3) (ih (k + 3) c st pr tn gn le pk b1 b2 b3 b4 b5 c6 c7 c8 c9 c10 c11 c12 c13 c14 c15 c16 c17 (by omega) (by omega) I''))
theorem fd_law_48 {xs : Nat → Int32} {L k a b : Nat} (hL : L ≤ 260) (hk : 1 ≤ k) (hk' : k ≤ 6) (ha : a ≤ 3) (hb : b ≤ 3) : wL_law_48 (fun r => r = 1) L xs (nI k) (nI a) (nI b) 0 0 := by
  unfold wL_law_48
  refine ⟨by omega, by omega, 17, 260, by omega, by omega, ?_⟩
  refine fd_init hk hk' ha hb ?_
  intro c st a1 a2 a3 a4 a5 a6 a7 a8 a9 a10 a11 a12 a13 a14 a15 a16 a17 I
  exact Exists.intro (L + 1) (fd_law_65 hL L 3 c st 0 0 0 0 0 a1 a2 a3 a4 a5 a6 a7 a8 a9 a10 a11 a12 a13 a14 a15 a16 a17 (by omega) (by omega) I)
theorem fd_law_32 {xs : Nat → Int32} {L k a : Nat} (hL : L ≤ 260) (hk : 1 ≤ k) (hk' : k ≤ 6) (ha : a ≤ 3) : wL_law_32 (fun r => r = 1) L xs (nI k) (nI a) 0 0 := by
  obtain ⟨b, hb, eb⟩ := pk_andE (xs (2 : Int32).toNatClampNeg) (m := 1) 1 (by decide)
  unfold wL_law_32
  rw [eb]
  exact pk_le L 2 (fun _ => fd_law_48 (b := 1) hL hk hk' ha (by omega)) (fun g => ⟨pk_in 2 L g, fd_law_48 hL hk hk' ha (by omega)⟩)
theorem fd_law_16 {xs : Nat → Int32} {L k : Nat} (hL : L ≤ 260) (hk : 1 ≤ k) (hk' : k ≤ 6) : wL_law_16 (fun r => r = 1) L xs (nI k) 0 0 := by
  obtain ⟨a, ha, ea⟩ := pk_andE (xs (1 : Int32).toNatClampNeg) (m := 3) 2 (by decide)
  unfold wL_law_16
  rw [ea]
  exact pk_le L 1 (fun _ => fd_law_32 (a := 1) hL hk hk' (by omega)) (fun g => ⟨pk_in 1 L g, fd_law_32 hL hk hk' (by omega)⟩)
theorem i_vc (xs : Nat → Int32) (L : Nat) (hL : L ≤ 260) : wpL_law (fun r => r = 1) L xs := by
  obtain ⟨a, ha, ea⟩ := pk_andE (xs (0 : Int32).toNatClampNeg) (m := 3) 2 (by decide)
  have e3 : (3 : Int32) + nI a = nI (3 + a) := nI_add 3 a
  unfold wpL_law
  rw [ea, e3]
  exact pk_le L 0 (fun _ => fd_law_16 (k := 5) hL (by omega) (by omega)) (fun g => ⟨pk_in 0 L g, fd_law_16 hL (by omega) (by omega)⟩)
end
