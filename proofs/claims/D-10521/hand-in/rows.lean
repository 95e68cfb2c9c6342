section
/-! pure rows: a gain and the first need that it asks for; at most one edge; the needs at the end; the mask -/
/-- a gain g: the first need w that it asks for -/
def eg_G (g : Int32) (w : Nat) : Prop := w ≤ 6 ∧ ((w = 0 ∧ ∃ m : Nat, m ≤ 6 ∧ g = nI m) ∨ (1 ≤ w ∧ g = -nI w))
/-- at most one edge, from u to v, whose first need is w -/
def eg_E (c n u v w : Nat) (a1 a2 a3 : Nat → Int32) : Prop := u < n ∧ v < n ∧ ((c = 0 ∧ w = 0) ∨ (c = 1 ∧ a1 0 = nI u ∧ a2 0 = nI v ∧ eg_G (a3 0) w))
/-- the last need of u -/
def eg_x (u v w t : Nat) : Nat := if w = 0 then 0 else if u = v then t else w
/-- the needs: x at u, 0 elsewhere -/
def eg_F (n u x : Nat) (b : Nat → Int32) : Prop := ∀ j, j < n → b j = nI (if j = u then x else 0)
theorem eg_sn (e w : Nat) : nI e - (-nI w) = nI (e + w) := by
  rw [← nI_add]
  grind
theorem eg_neg {w : Nat} (h : 1 ≤ w) (h6 : w ≤ 6) : ¬ (0 : Int32) ≤ -nI w := by
  rw [Int32.le_iff_toInt_le, sb_negT (by omega)]
  have e0 : (0 : Int32).toInt = 0 := by decide
  omega
theorem eg_nn (w : Nat) : - -nI w = nI w := by grind
theorem eg_gain {g : Int32} (h1 : ¬ g < (-6)) (h2 : g ≤ 6) : ∃ w, eg_G g w := by
  by_cases h : g < 0
  · have h1' : ¬ g.toInt < -6 := fun q => h1 (Int32.lt_iff_toInt_lt.mpr (by rw [show (-6 : Int32).toInt = -6 by decide]; exact q))
    have h' : g.toInt < 0 := by
      have q := Int32.lt_iff_toInt_lt.mp h
      rw [show (0 : Int32).toInt = 0 by decide] at q
      exact q
    refine ⟨(-g.toInt).toNat, by omega, Or.inr ⟨by omega, ?_⟩⟩
    apply Int32.toInt_inj.mp
    rw [sb_negT (by omega)]
    omega
  · obtain ⟨j, hj, e⟩ := nI_of2 (M := 6) (n := 6) (by decide) h h2
    exact ⟨0, by omega, Or.inl ⟨rfl, j, hj, e⟩⟩
theorem eg_fill {f s : Nat → Int32} {i k : Nat} {x : Int32} (hk : k = i) (h : ∀ j, j < i → s j = f j) (hx : x = f i) : ∀ j, j < i + 1 → upd s k x j = f j := by
  intro j hj
  rw [hk]
  by_cases e : j = i
  · rw [e, pk_us, hx]
  · rw [pk_un e]
    exact h j (by omega)
/-- the answer of safe(0) when k vertices are looked at: all but u, if b -/
def eg_m (b : Bool) (u k : Nat) : Nat := 2 ^ k - 1 - (if b = true ∧ u < k then 2 ^ u else 0)
theorem eg_m0 (b : Bool) (u : Nat) : eg_m b u 0 = 0 := by
  unfold eg_m
  rw [if_neg (by omega)]
theorem eg_mor : ∀ b : Bool, ∀ k, k < 6 → ∀ u, u < 6 → ¬ (b = true ∧ u = k) → nI (eg_m b u k) ||| ((1 : Int32) <<< (nI k &&& 31)) = nI (eg_m b u (k + 1)) := by decide +kernel
theorem eg_mno : ∀ u, u < 6 → eg_m true u (u + 1) = eg_m true u u := by decide +kernel
theorem eg_mf : ∀ n, n < 7 → ∀ u, u < n → nI (eg_m false u n) = ((1 : Int32) <<< (nI n &&& 31)) - 1 - 0 := by decide +kernel
theorem eg_mt : ∀ n, n < 7 → ∀ u, u < n → nI (eg_m true u n) = ((1 : Int32) <<< (nI n &&& 31)) - 1 - ((1 : Int32) <<< (nI u &&& 31)) := by decide +kernel
theorem eg_top : ∀ n, n < 7 → 2 ≤ n → (6 : Int32) * (nI n - 1) + 1 = nI (6 * (n - 1) + 1) := by decide +kernel
end
section
/-! asked, wantedAt, solve -/
section
variable {fn fc ft fs fr : Int32} {a1 a2 a3 a4 a5 a6 a7 : Nat → Int32}
theorem eg_askN {post : Int32 → Prop} {t v e w : Nat} (ht : t ≤ 31) (hv : v < 6) (h2 : a2 0 = nI v) (h5 : a5 v = nI e) (he : e ≤ t) (hw : w ≤ 6) (h3 : a3 0 = -nI w) (hp : post (nI (min (e + w) t))) : wpX_asked post (fn, fc, nI t, fs, fr, a1, a2, a3, a4, a5, a6, a7) 0 := by
  unfold wpX_asked
  dsimp only
  rw [sb_cl0, h2, nI_clamp (show v < 2 ^ 31 by omega), h5, h3]
  refine ⟨pk_in 0 14 (by omega), pk_in v 6 hv, nm_e (pk_eq e t (fun z => ?_) (fun z => ⟨pk_in 0 14 (by omega), nm_r (eg_sn e w) (pk_le 0 (e + w) (fun _ => pk_le t (e + w) (fun g => ?_) (fun g => ?_)) (fun g => absurd g (by omega)))⟩))⟩
  · rw [show min (e + w) t = t by omega] at hp
    exact hp
  · rw [show min (e + w) t = t by omega] at hp
    exact hp
  · rw [show min (e + w) t = e + w by omega] at hp
    exact hp
theorem eg_askP {post : Int32 → Prop} {t v m : Nat} (ht1 : 1 ≤ t) (ht : t ≤ 31) (hv : v < 6) (h2 : a2 0 = nI v) (h5 : a5 v = nI 0) (hm : m ≤ 6) (h3 : a3 0 = nI m) (hp : post (nI 0)) : wpX_asked post (fn, fc, nI t, fs, fr, a1, a2, a3, a4, a5, a6, a7) 0 := by
  unfold wpX_asked
  dsimp only
  rw [sb_cl0, h2, nI_clamp (show v < 2 ^ 31 by omega), h5, h3]
  refine ⟨pk_in 0 14 (by omega), pk_in v 6 hv, nm_e (pk_eq 0 t (fun z => absurd z (by omega)) (fun z => ⟨pk_in 0 14 (by omega), ?_⟩))⟩
  by_cases e : m = 0
  · subst e
    exact nm_r (e' := nI 0) (by decide) (pk_le 0 0 (fun _ => pk_le t 0 (fun g => absurd g (by omega)) (fun _ => hp)) (fun g => absurd g (by omega)))
  · refine nm_e (br_f (fun q => ?_) hp)
    have s := pk_sneg (a := 0) (b := m) (by omega) (by omega)
    rw [Int32.lt_iff_toInt_lt] at s
    rw [Int32.le_iff_toInt_le] at q
    omega
theorem eg_ask0 {post : Int32 → Prop} {t v w : Nat} (ht7 : 7 ≤ t) (ht : t ≤ 31) (hv : v < 6) (h2 : a2 0 = nI v) (h5 : a5 v = nI 0) (hg : eg_G (a3 0) w) (hp : post (nI w)) : wpX_asked post (fn, fc, nI t, fs, fr, a1, a2, a3, a4, a5, a6, a7) 0 := by
  obtain ⟨hw, ⟨rfl, m, hm, e⟩ | ⟨h1, e⟩⟩ := hg
  · exact eg_askP (by omega) ht hv h2 h5 hm e hp
  · refine eg_askN ht hv h2 h5 (by omega) hw e ?_
    rw [show min (0 + w) t = w by omega]
    exact hp
theorem eg_want1 {post : Int32 → Prop} {u q : Nat} (hq : q ≤ 31) (h1 : a1 0 = nI u) (hask : ∀ Q : Int32 → Prop, Q (nI q) → wpX_asked Q (fn, nI 1, ft, -1, fr, a1, a2, a3, a4, a5, a6, a7) 0) (hp : post (nI q)) : wpX_wantedAt post (fn, nI 1, ft, -1, fr, a1, a2, a3, a4, a5, a6, a7) (nI u) := by
  unfold wpX_wantedAt
  dsimp only
  exact ⟨2, pk_le 1 0 (fun z => absurd z (by omega)) (fun _ => ⟨pk_in 0 14 (by omega), br_t h1 (br_f (by decide) (hask _ (br_t (by decide) (br_f (by decide) (nm_r (nI_1 0) (pk_le 1 1 (fun _ => br_t (nI_pos' (by omega)) hp) (fun z => absurd z (by omega))))))))⟩)⟩
theorem eg_wantN {post : Int32 → Prop} {c u p : Nat} (hc : c = 0 ∨ (c = 1 ∧ a1 0 = nI u)) (hu : u < 6) (hp6 : p < 6) (hne : c = 1 → p ≠ u) (hp : post (nI 0)) : wpX_wantedAt post (fn, nI c, ft, fs, fr, a1, a2, a3, a4, a5, a6, a7) (nI p) := by
  unfold wpX_wantedAt
  dsimp only
  rcases hc with rfl | ⟨rfl, h1⟩
  · exact ⟨1, pk_le 0 0 (fun _ => br_f (by decide) hp) (fun z => absurd z (by omega))⟩
  · have hn : ¬ a1 0 = nI p := fun z => hne rfl ((nI_eq (by omega) (by omega)).mp (h1.symm.trans z)).symm
    exact ⟨2, pk_le 1 0 (fun z => absurd z (by omega)) (fun _ => ⟨pk_in 0 14 (by omega), br_f hn (nm_r (nI_1 0) (pk_le 1 1 (fun _ => br_f (by decide) hp) (fun z => absurd z (by omega))))⟩)⟩
theorem eg_turn {post : St2 → Prop} {N i l s p q z : Nat} (hi : i < 8) (hl : l < 8) (hil : i ≠ l) (hs : s < 1200) (hp : p < 6) (hq : q ≤ 31) (hz : z ≤ 31) (h7 : a7 i = nI p) (h5 : a5 p = nI z)
    (hw : ∀ Q : Int32 → Prop, Q (nI q) → wpX_wantedAt Q (fn, fc, ft, fs, fr, a1, a2, a3, a4, a5, upd a6 p 0, a7) (nI p))
    (H : q ≤ z → wX_solve_46 post fn fc ft fs fr N (nI ((i + 1) % 8)) (nI l) (nI (s + 1)) a1 a2 a3 a4 a5 (upd a6 p 0) a7)
    (K : z < q → ∃ fu, wX_solve_116 post (wX_solve_46 post fn fc ft fs fr N) (nI ((i + 1) % 8)) (nI s) (nI p) fn fc ft fs fr fu (nI l) 0 a1 a2 a3 a4 (upd a5 p (nI q)) (upd a6 p 0) a7) :
    wX_solve_46 post fn fc ft fs fr (N + 1) (nI i) (nI l) (nI s) a1 a2 a3 a4 a5 a6 a7 := by
  have e1 : nI i &&& 7 = nI i := by rw [pk_andN (by omega) 3 (by decide), Nat.mod_eq_of_lt hi]
  have e2 : (nI i + 1) &&& 7 = nI ((i + 1) % 8) := by rw [nI_1, pk_andN (by omega) 3 (by decide)]
  have ec : (nI p).toNatClampNeg = p := nI_clamp (by omega)
  refine pk_le 1200 s (fun z => absurd z (by omega)) (fun _ => pk_eq i l (fun z => absurd z hil) (fun _ => ⟨pk_in i 8 hi e1, nm_r (e' := nI p) (by rw [e1, nI_clamp (by omega)]; exact h7) (nm_r e2 ⟨pk_in p 6 hp, nm_r (e' := upd a6 p 0) (by rw [ec]) (hw _ ⟨pk_in p 6 hp, ?_⟩)⟩)⟩))
  rw [ec, h5]
  exact pk_le q z (fun g => nm_r (nI_1 s) (H g)) (fun g => ⟨pk_in p 6 hp, nm_e (K g)⟩)
theorem eg_116n {post : St2 → Prop} {J : Int32 → Int32 → Int32 → (Nat → Int32) → (Nat → Int32) → (Nat → Int32) → (Nat → Int32) → (Nat → Int32) → (Nat → Int32) → (Nat → Int32) → Prop} {x1 : Int32} {l s p v : Nat} (hp : p < 6) (hv : v < 6) (h2 : a2 0 = nI v) (hne : p ≠ v) (H : J x1 (nI l) (nI (s + 1)) a1 a2 a3 a4 a5 a6 a7) : ∃ fu, wX_solve_116 post J x1 (nI s) (nI p) fn (nI 1) ft fs fr fu (nI l) 0 a1 a2 a3 a4 a5 a6 a7 := by
  have hn : ¬ a2 0 = nI p := fun z => hne ((nI_eq (by omega) (by omega)).mp (h2.symm.trans z)).symm
  exact ⟨2, pk_le 1 0 (fun z => absurd z (by omega)) (fun _ => ⟨pk_in 0 14 (by omega), br_f hn (nm_r (nI_1 0) (pk_le 1 1 (fun _ => nm_r (nI_1 s) H) (fun z => absurd z (by omega))))⟩)⟩
theorem eg_116y {post : St2 → Prop} {J : Int32 → Int32 → Int32 → (Nat → Int32) → (Nat → Int32) → (Nat → Int32) → (Nat → Int32) → (Nat → Int32) → (Nat → Int32) → (Nat → Int32) → Prop} {x1 : Int32} {l s u : Nat} (hl : l < 8) (hu : u < 6) (h1 : a1 0 = nI u) (h2 : a2 0 = nI u) (h6 : a6 u = 0) (H : J x1 (nI ((l + 1) % 8)) (nI (s + 1)) a1 a2 a3 a4 a5 (upd a6 u 1) (upd a7 l (nI u))) : ∃ fu, wX_solve_116 post J x1 (nI s) (nI u) fn (nI 1) ft fs fr fu (nI l) 0 a1 a2 a3 a4 a5 a6 a7 := by
  have e1 : nI l &&& 7 = nI l := by rw [pk_andN (by omega) 3 (by decide), Nat.mod_eq_of_lt hl]
  have e2 : (nI l + 1) &&& 7 = nI ((l + 1) % 8) := by rw [nI_1, pk_andN (by omega) 3 (by decide)]
  have ec : (nI u).toNatClampNeg = u := nI_clamp (by omega)
  have e3 : (a1 (0 : Int32).toNatClampNeg).toNatClampNeg = u := by rw [sb_cl0, h1, ec]
  refine ⟨2, pk_le 1 0 (fun z => absurd z (by omega)) (fun _ => ⟨pk_in 0 14 (by omega), br_t h2 ⟨pk_in 0 14 (by omega), pk_in u 6 hu h1, br_t (by rw [e3]; exact h6) ⟨pk_in 0 14 (by omega), pk_in u 6 hu h1, nm_r (e' := upd a6 u 1) (by rw [e3]) ⟨pk_in 0 14 (by omega), pk_in l 8 hl e1, nm_r (e' := upd a7 l (nI u)) (by rw [e1, nI_clamp (by omega), sb_cl0, h1]) (nm_r e2 (nm_r (nI_1 0) (pk_le 1 1 (fun _ => nm_r (nI_1 s) H) (fun z => absurd z (by omega)))))⟩⟩⟩⟩)⟩
theorem eg_s6 {post : St2 → Prop} {n : Nat} (hn : n ≤ 6) (H : ∀ b5 b6 b7 : Nat → Int32, (∀ j, j < n → b5 j = nI 0) → (∀ j, j < n → b7 j = nI j) → ∃ fu, wX_solve_46 post (nI n) fc ft fs fr fu 0 (nI n) 0 a1 a2 a3 a4 b5 b6 b7) : wpX_solve post (nI n, fc, ft, fs, fr, a1, a2, a3, a4, a5, a6, a7) := by
  unfold wpX_solve
  dsimp only
  exact pk_loop (σ := (Nat → Int32) × (Nat → Int32) × (Nat → Int32)) (fun m i s => wX_solve_6 post 0 (nI n) fc ft fs fr m (nI i) (nI i) a1 a2 a3 a4 s.1 s.2.1 s.2.2) (fun i s => (∀ j, j < i → s.1 j = nI 0) ∧ (∀ j, j < i → s.2.2 j = nI j)) n 0 (a5, a6, a7) (by omega) ⟨fun j h => absurd h (by omega), fun j h => absurd h (by omega)⟩
    (fun m s h => pk_le n n (fun _ => H s.1 s.2.1 s.2.2 h.1 h.2) (fun z => absurd z (by omega)))
    (fun m i s hi h hw => pk_le n i (fun z => absurd z (by omega)) (fun _ => ⟨pk_in i 6 (by omega), nm_e ⟨pk_in i 6 (by omega), nm_e ⟨pk_in i 8 (by omega), nm_e (nm_r (nI_1 i) (nm_r (nI_1 i) (hw (upd s.1 (nI i).toNatClampNeg 0, upd s.2.1 (nI i).toNatClampNeg 1, upd s.2.2 (nI i).toNatClampNeg (nI i)) ⟨eg_fill (f := fun _ => nI 0) (nI_clamp (by omega)) h.1 rfl, eg_fill (f := nI) (nI_clamp (by omega)) h.2 rfl⟩)))⟩⟩⟩))
theorem eg_ph2 {post : St2 → Prop} {n t u w : Nat} (hn : n ≤ 6) (ht : t ≤ 31) (hu : u < n) (hw : 1 ≤ w) (hw6 : w ≤ 6) (h1 : a1 0 = nI u) (h2 : a2 0 = nI u) (h3 : a3 0 = -nI w)
    (H : ∀ b5 b6 b7 : Nat → Int32, eg_F n u t b5 → post (nI n, nI 1, nI t, -1, fr, a1, a2, a3, a4, b5, b6, b7)) :
    ∀ (N k e : Nat) (b5 b6 b7 : Nat → Int32), t - e + 2 ≤ N → e ≤ t → k + (t - e) < 100 → b7 (k % 8) = nI u → eg_F n u e b5 →
      wX_solve_46 post (nI n) (nI 1) (nI t) (-1) fr N (nI (k % 8)) (nI ((k + 1) % 8)) (nI k) a1 a2 a3 a4 b5 b6 b7 := by
  intro N
  induction N with
  | zero => intro k e b5 b6 b7 hN; exact absurd hN (by omega)
  | succ N ih =>
    intro k e b5 b6 b7 hN he hk h7 h5
    have e5 : b5 u = nI e := by rw [h5 u hu, if_pos rfl]
    refine eg_turn (p := u) (q := min (e + w) t) (z := e) (by omega) (by omega) (by omega) (by omega) (by omega) (by omega) (by omega) h7 e5 (fun Q hQ => eg_want1 (by omega) h1 (fun Q' hQ' => eg_askN ht (by omega) h2 e5 he hw6 h3 hQ') hQ) (fun g => ?_) (fun g => ?_)
    · have e' : e = t := by omega
      subst e'
      obtain ⟨M, rfl⟩ : ∃ M, N = M + 1 := ⟨N - 1, by omega⟩
      rw [show (k % 8 + 1) % 8 = (k + 1) % 8 by omega]
      exact pk_le 1200 (k + 1) (fun z => absurd z (by omega)) (fun _ => br_t rfl (H _ _ _ h5))
    · refine eg_116y (by omega) (by omega) h1 h2 pk_us ?_
      rw [show (k % 8 + 1) % 8 = (k + 1) % 8 by omega, show ((k + 1) % 8 + 1) % 8 = (k + 1 + 1) % 8 by omega]
      refine ih (k + 1) (min (e + w) t) _ _ _ (by omega) (by omega) (by omega) pk_us (fun j hj => ?_)
      by_cases ej : j = u
      · rw [if_pos ej, ej, pk_us]
      · rw [if_neg ej, pk_un ej, h5 j hj, if_neg ej]
theorem eg_ph1 {post : St2 → Prop} {c n t u v w : Nat} (hn : n ≤ 6) (ht7 : 7 ≤ t) (ht : t ≤ 31) (hE : eg_E c n u v w a1 a2 a3)
    (H : ∀ b5 b6 b7 : Nat → Int32, eg_F n u (eg_x u v w t) b5 → post (nI n, nI c, nI t, -1, fr, a1, a2, a3, a4, b5, b6, b7)) :
    ∀ (N k l : Nat) (b5 b6 b7 : Nat → Int32), n - k + 50 ≤ N → k ≤ n → l = (if 1 ≤ w ∧ u = v ∧ u < k then n + 1 else n) → (∀ j, j < n → b5 j = nI (if j = u ∧ u < k then w else 0)) → (∀ j, j < n → b7 j = nI j) → (1 ≤ w → u = v → u < k → b7 n = nI u) →
      wX_solve_46 post (nI n) (nI c) (nI t) (-1) fr N (nI k) (nI l) (nI k) a1 a2 a3 a4 b5 b6 b7 := by
  obtain ⟨hu, hv, hc⟩ := hE
  have hw6 : w ≤ 6 := by
    rcases hc with ⟨_, h⟩ | ⟨_, _, _, h⟩
    · omega
    · exact h.1
  intro N
  induction N with
  | zero => intro k l b5 b6 b7 hN; exact absurd hN (by omega)
  | succ N ih =>
    intro k l b5 b6 b7 hN hk hl h5 h7 h7n
    by_cases hkn : k = n
    · subst hkn
      by_cases hL : 1 ≤ w ∧ u = v
      · obtain ⟨hw1, huv⟩ := hL
        subst huv
        rcases hc with ⟨_, h⟩ | ⟨rfl, h1, h2, hG⟩
        · exact absurd h (by omega)
        · have h3 : a3 0 = -nI w := by
            rcases hG.2 with ⟨h, _⟩ | ⟨_, h⟩
            · exact absurd h (by omega)
            · exact h
          have el : l = (k + 1) % 8 := by
            rw [hl, if_pos ⟨hw1, rfl, hu⟩]
            omega
          have ek : k % 8 = k := by omega
          have ex : eg_x u u w t = t := by
            unfold eg_x
            rw [if_neg (by omega), if_pos rfl]
          rw [ex] at H
          have R := eg_ph2 (post := post) (a4 := a4) (fr := fr) hn ht hu hw1 hw6 h1 h2 h3 H (N + 1) k w b5 b6 b7 (by omega) (by omega) (by omega) (by rw [ek]; exact h7n hw1 rfl hu) (fun j hj => by
            rw [h5 j hj]
            by_cases ej : j = u
            · rw [if_pos ej, if_pos ⟨ej, hu⟩]
            · rw [if_neg ej, if_neg (fun z => ej z.1)])
          rw [ek, ← el] at R
          exact R
      · have el : l = k := by
          rw [hl, if_neg (fun z => hL ⟨z.1, z.2.1⟩)]
        subst el
        have ex : eg_x u v w t = w := by
          unfold eg_x
          by_cases h0 : w = 0
          · rw [if_pos h0, h0]
          · rw [if_neg h0, if_neg (fun z => hL ⟨by omega, z⟩)]
        rw [ex] at H
        exact pk_le 1200 l (fun z => absurd z (by omega)) (fun _ => br_t rfl (H _ _ _ (fun j hj => by
          rw [h5 j hj]
          by_cases ej : j = u
          · rw [if_pos ej, if_pos ⟨ej, hu⟩]
          · rw [if_neg ej, if_neg (fun z => ej z.1)])))
    · have hkl : k < n := by omega
      have ek : (k + 1) % 8 = k + 1 := by omega
      have hl7 : l < 8 ∧ n ≤ l := by
        rw [hl]
        split <;> omega
      have e5 : b5 k = nI 0 := by rw [h5 k hkl, if_neg (by omega)]
      refine eg_turn (p := k) (q := if k = u then w else 0) (z := 0) (by omega) hl7.1 (by omega) (by omega) (by omega) (by split <;> omega) (by omega) (h7 k hkl) e5 (fun Q hQ => ?_) (fun g => ?_) (fun g => ?_)
      · by_cases eu : k = u
        · subst eu
          rw [if_pos rfl] at hQ
          rcases hc with ⟨rfl, rfl⟩ | ⟨rfl, h1, h2, hG⟩
          · exact eg_wantN (u := k) (Or.inl rfl) (by omega) (by omega) (fun z => absurd z (by omega)) hQ
          · have e5v : b5 v = nI 0 := by rw [h5 v hv, if_neg (by omega)]
            exact eg_want1 (by omega) h1 (fun Q' hQ' => eg_ask0 ht7 ht (by omega) h2 e5v hG hQ') hQ
        · rw [if_neg eu] at hQ
          rcases hc with ⟨rfl, rfl⟩ | ⟨rfl, h1, h2, hG⟩
          · exact eg_wantN (u := u) (Or.inl rfl) (by omega) (by omega) (fun z => absurd z (by omega)) hQ
          · exact eg_wantN (u := u) (Or.inr ⟨rfl, h1⟩) (by omega) (by omega) (fun _ => eu) hQ
      · rw [ek]
        refine ih (k + 1) l b5 _ b7 (by omega) (by omega) ?_ (fun j hj => ?_) h7 (fun h1 h2 h3 => ?_)
        · rw [hl]
          by_cases eu : k = u
          · rw [if_pos eu] at g
            rw [if_neg (by omega), if_neg (by omega)]
          · by_cases hc2 : 1 ≤ w ∧ u = v ∧ u < k
            · rw [if_pos hc2, if_pos ⟨hc2.1, hc2.2.1, by omega⟩]
            · rw [if_neg hc2, if_neg (fun z => hc2 ⟨z.1, z.2.1, by omega⟩)]
        · rw [h5 j hj]
          by_cases eu : k = u
          · rw [if_pos eu] at g
            have w0 : w = 0 := by omega
            rw [w0]
            by_cases q1 : j = u ∧ u < k
            · rw [if_pos q1, if_pos ⟨q1.1, by omega⟩]
            · rw [if_neg q1]
              split <;> rfl
          · by_cases q1 : j = u ∧ u < k
            · rw [if_pos q1, if_pos ⟨q1.1, by omega⟩]
            · rw [if_neg q1, if_neg (fun z => q1 ⟨z.1, by omega⟩)]
        · by_cases eu : k = u
          · rw [if_pos eu] at g
            exact absurd g (by omega)
          · exact h7n h1 h2 (by omega)
      · by_cases eu : k = u
        · subst eu
          rw [if_pos rfl] at g
          rw [if_pos rfl, ek]
          rcases hc with ⟨_, h⟩ | ⟨rfl, h1, h2, hG⟩
          · exact absurd h (by omega)
          · have el : l = n := by rw [hl, if_neg (by omega)]
            have F5 : ∀ j, j < n → upd b5 k (nI w) j = nI (if j = k ∧ k < k + 1 then w else 0) := fun j hj => by
              by_cases ej : j = k
              · rw [if_pos ⟨ej, by omega⟩, ej, pk_us]
              · rw [if_neg (fun z => ej z.1), pk_un ej, h5 j hj, if_neg (fun z => ej z.1)]
            by_cases huv : k = v
            · subst huv
              refine eg_116y hl7.1 (by omega) h1 h2 pk_us ?_
              rw [show (l + 1) % 8 = n + 1 by omega]
              refine ih (k + 1) (n + 1) _ _ _ (by omega) (by omega) (by rw [if_pos ⟨by omega, rfl, by omega⟩]) F5 (fun j hj => ?_) (fun _ _ _ => ?_)
              · rw [pk_un (by omega)]
                exact h7 j hj
              · rw [el, pk_us]
            · refine eg_116n (by omega) (by omega) h2 huv ?_
              exact ih (k + 1) l _ _ _ (by omega) (by omega) (by rw [el, if_neg (fun z => huv z.2.1)]) F5 h7 (fun _ z _ => absurd z huv)
        · rw [if_neg eu] at g
          exact absurd g (by omega)
theorem eg_solve {post : St2 → Prop} {c n t u v w : Nat} (hn : n ≤ 6) (ht7 : 7 ≤ t) (ht : t ≤ 31) (hE : eg_E c n u v w a1 a2 a3)
    (H : ∀ b5 b6 b7 : Nat → Int32, eg_F n u (eg_x u v w t) b5 → post (nI n, nI c, nI t, -1, fr, a1, a2, a3, a4, b5, b6, b7)) :
    wpX_solve post (nI n, nI c, nI t, -1, fr, a1, a2, a3, a4, a5, a6, a7) :=
  eg_s6 hn (fun b5 b6 b7 h5 h7 => ⟨n + 50, eg_ph1 hn ht7 ht hE H (n + 50) 0 n b5 b6 b7 (by omega) (by omega) (by rw [if_neg (by omega)]) (fun j hj => by rw [h5 j hj, if_neg (by omega)]) h7 (fun _ _ z => absurd z (by omega))⟩)
end
end
section
/-! the methods that the law calls -/
section
variable {fn fc ft fs fr : Int32} {a1 a2 a3 a4 a5 a6 a7 : Nat → Int32}
theorem eg_w6 {c n u v w : Nat} (hE : eg_E c n u v w a1 a2 a3) : w ≤ 6 := by
  rcases hE.2.2 with ⟨_, h⟩ | ⟨_, _, _, h⟩
  · omega
  · exact h.1
theorem eg_c1 {c n u v w : Nat} (hE : eg_E c n u v w a1 a2 a3) : c ≤ 1 := by
  rcases hE.2.2 with ⟨h, _⟩ | ⟨h, _⟩
  · omega
  · omega
theorem eg_x31 {u v w t : Nat} (hw : w ≤ 6) (ht : t ≤ 31) : eg_x u v w t ≤ 31 := by
  unfold eg_x
  split
  · omega
  · split <;> omega
theorem eg_xL {u v w t : Nat} (h : 1 ≤ w ∧ u = v) : eg_x u v w t = t := by
  unfold eg_x
  rw [if_neg (by omega), if_pos h.2]
theorem eg_xN {u v w t : Nat} (h : ¬ (1 ≤ w ∧ u = v)) : eg_x u v w t = w := by
  unfold eg_x
  by_cases h0 : w = 0
  · rw [if_pos h0, h0]
  · rw [if_neg h0, if_neg (fun z => h ⟨by omega, z⟩)]
theorem eg_vy {post : Int32 → Prop} {n u : Nat} (hn : n ≤ 6) (hu : u < n) (hp : post 1) : wpX_isVertex post (nI n, fc, ft, fs, fr, a1, a2, a3, a4, a5, a6, a7) (nI u) :=
  br_f (nI_pos (by omega)) (br_f (nI_ge hu (by omega)) hp)
theorem eg_vn {post : Int32 → Prop} {n : Nat} {p : Int32} (h : p < 0 ∨ nI n ≤ p) (hp : post 0) : wpX_isVertex post (nI n, fc, ft, fs, fr, a1, a2, a3, a4, a5, a6, a7) p :=
  br_c (fun _ => hp) (fun z => br_t (h.resolve_left z) hp)
theorem eg_ref0 {post : St2 → Prop} {c n t u v w : Nat} (hn : n ≤ 6) (ht7 : 7 ≤ t) (ht : t ≤ 31) (hE : eg_E c n u v w a1 a2 a3)
    (H : ∀ b5 b6 b7 : Nat → Int32, eg_F n u (eg_x u v w t) b5 → post (nI n, nI c, nI t, -1, 1, a1, a2, a3, a4, b5, b6, b7)) :
    wpX_refresh post (nI n, nI c, nI t, -1, 0, a1, a2, a3, a4, a5, a6, a7) :=
  br_t rfl (eg_solve hn ht7 ht hE H)
theorem eg_ref1 {post : St2 → Prop} (hp : post (fn, fc, ft, fs, 1, a1, a2, a3, a4, a5, a6, a7)) : wpX_refresh post (fn, fc, ft, fs, 1, a1, a2, a3, a4, a5, a6, a7) :=
  br_f (by decide) hp
theorem eg_shown {post : Int32 → Prop} {t u x : Nat} (hu : u < 6) (ht : t ≤ 31) (hx : x ≤ 31) (h5 : a5 u = nI x) (h1 : x = t → post (-2)) (h2 : x ≠ t → post (nI x)) : wpX_shown post (fn, fc, nI t, fs, fr, a1, a2, a3, a4, a5, a6, a7) (nI u) := by
  unfold wpX_shown
  dsimp only
  rw [nI_clamp (show u < 2 ^ 31 by omega), h5]
  exact ⟨pk_in u 6 hu, pk_eq x t h1 (fun z => ⟨pk_in u 6 hu, h2 z⟩)⟩
theorem eg_need {post : Int32 → St2 → Prop} {c n t u v w : Nat} (hn : n ≤ 6) (ht7 : 7 ≤ t) (ht : t ≤ 31) (hE : eg_E c n u v w a1 a2 a3)
    (H : ∀ b5 b6 b7 : Nat → Int32, eg_F n u (eg_x u v w t) b5 → (eg_x u v w t = t → post (-2) (nI n, nI c, nI t, -1, 1, a1, a2, a3, a4, b5, b6, b7)) ∧ (eg_x u v w t ≠ t → post (nI (eg_x u v w t)) (nI n, nI c, nI t, -1, 1, a1, a2, a3, a4, b5, b6, b7))) :
    wpX_need post (nI n, nI c, nI t, -1, 0, a1, a2, a3, a4, a5, a6, a7) (nI u) := by
  have hu := hE.1
  unfold wpX_need
  dsimp only
  exact eg_vy hn hu (br_f (by decide) (eg_ref0 hn ht7 ht hE (fun b5 b6 b7 h => eg_shown (by omega) ht (eg_x31 (eg_w6 hE) ht) ((h u hu).trans (by rw [if_pos rfl])) (H b5 b6 b7 h).1 (H b5 b6 b7 h).2)))
theorem eg_needI {post : Int32 → St2 → Prop} {n : Nat} {p : Int32} (h : p < 0 ∨ nI n ≤ p) (hp : post (-1) (nI n, fc, ft, fs, fr, a1, a2, a3, a4, a5, a6, a7)) : wpX_need post (nI n, fc, ft, fs, fr, a1, a2, a3, a4, a5, a6, a7) p := by
  unfold wpX_need
  dsimp only
  exact eg_vn h (br_t rfl hp)
theorem eg_safe8 {post : Int32 → St2 → Prop} {n t u x : Nat} {b : Bool} (hn : n ≤ 6) (hu : u < n) (ht1 : 1 ≤ t) (ht : t ≤ 31) (hx : x ≤ 31) (hb : b = true ↔ 0 < x) (h5 : eg_F n u x a5) (hp : post (nI (eg_m b u n)) (nI n, fc, nI t, fs, fr, a1, a2, a3, a4, a5, a6, a7)) : ∃ fu, wX_safe_8 post 0 (nI n) fc (nI t) fs fr a1 a2 a3 a4 a5 a6 a7 fu 0 0 := by
  have R : ∃ m, wX_safe_8 post 0 (nI n) fc (nI t) fs fr a1 a2 a3 a4 a5 a6 a7 m (nI (eg_m b u 0)) (nI 0) := by
    refine pk_loop (σ := Unit) (fun m i _ => wX_safe_8 post 0 (nI n) fc (nI t) fs fr a1 a2 a3 a4 a5 a6 a7 m (nI (eg_m b u i)) (nI i)) (fun _ _ => True) n 0 () (by omega) trivial (fun m _ _ => pk_le n n (fun _ => hp) (fun z => absurd z (by omega))) (fun m i _ hi _ hw => ?_)
    have hw' : wX_safe_8 post 0 (nI n) fc (nI t) fs fr a1 a2 a3 a4 a5 a6 a7 m (nI (eg_m b u (i + 1))) (nI (i + 1)) := hw () trivial
    have ec : (nI i).toNatClampNeg = i := nI_clamp (by omega)
    show wX_safe_8 post 0 (nI n) fc (nI t) fs fr a1 a2 a3 a4 a5 a6 a7 (m + 1) (nI (eg_m b u i)) (nI i)
    refine pk_le n i (fun z => absurd z (by omega)) (fun _ => ⟨pk_in i 6 (by omega), ?_⟩)
    rw [ec, h5 i hi]
    by_cases hc : i = u ∧ 0 < x
    · obtain ⟨e, hx0⟩ := hc
      have hb' : b = true := hb.mpr hx0
      rw [hb', e, eg_mno u (by omega)] at hw'
      rw [if_pos e, hb', e]
      exact pk_le t x (fun _ => nm_r (nI_1 u) hw') (fun _ => ⟨pk_in u 6 (by omega), pk_lt 0 x (fun _ => nm_r (nI_1 u) hw') (fun z => absurd z (by omega))⟩)
    · have e0 : (if i = u then x else 0) = 0 := by split <;> omega
      rw [e0]
      rw [← eg_mor b i (by omega) u (by omega) (fun z => hc ⟨z.2.symm, hb.mp z.1⟩)] at hw'
      exact pk_le t 0 (fun z => absurd z (by omega)) (fun _ => ⟨pk_in i 6 (by omega), pk_lt 0 0 (fun z => absurd z (by omega)) (fun _ => nm_e (nm_r (nI_1 i) hw'))⟩)
  rw [eg_m0] at R
  exact R
theorem eg_safe1 {post : Int32 → St2 → Prop} {n t u x : Nat} {b : Bool} (hn : n ≤ 6) (hu : u < n) (ht1 : 1 ≤ t) (ht : t ≤ 31) (hx : x ≤ 31) (hb : b = true ↔ 0 < x) (h5 : eg_F n u x a5) (hp : post (nI (eg_m b u n)) (nI n, fc, nI t, fs, 1, a1, a2, a3, a4, a5, a6, a7)) : wpX_safe post (nI n, fc, nI t, fs, 1, a1, a2, a3, a4, a5, a6, a7) 0 := by
  unfold wpX_safe
  dsimp only
  exact eg_ref1 (eg_safe8 hn hu ht1 ht hx hb h5 hp)
theorem eg_safe0 {post : Int32 → St2 → Prop} {n t : Nat} (hn2 : 2 ≤ n) (hn : n ≤ 6) (ht7 : 7 ≤ t) (ht : t ≤ 31)
    (H : ∀ b5 b6 b7 : Nat → Int32, post (nI (eg_m false 0 n)) (nI n, nI 0, nI t, -1, 1, a1, a2, a3, a4, b5, b6, b7)) : wpX_safe post (nI n, nI 0, nI t, -1, 0, a1, a2, a3, a4, a5, a6, a7) 0 := by
  unfold wpX_safe
  dsimp only
  exact eg_ref0 (c := 0) (u := 0) (v := 0) (w := 0) hn ht7 ht ⟨by omega, by omega, Or.inl ⟨rfl, rfl⟩⟩ (fun b5 b6 b7 h => eg_safe8 (u := 0) (x := 0) (b := false) hn (by omega) (by omega) ht (by omega) (by decide) h (H b5 b6 b7))
theorem eg_goodT {post : Int32 → Prop} {t u : Nat} (hu : u < 6) (h1 : a1 0 = nI u) (h2 : a2 0 = nI u) (h5 : a5 u = nI t) (hy : a4 u = 1 → post 1) (hno : ¬ a4 u = 1 → post 0) : wpX_isGood post (fn, fc, nI t, fs, fr, a1, a2, a3, a4, a5, a6, a7) 0 := by
  unfold wpX_isGood
  dsimp only
  rw [sb_cl0, h1, h2]
  refine ⟨pk_in 0 14 (by omega), nm_e ⟨pk_in 0 14 (by omega), nm_e ⟨pk_in u 6 hu, ?_⟩⟩⟩
  rw [nI_clamp (show u < 2 ^ 31 by omega), h5]
  exact br_t rfl ⟨pk_in u 6 hu, br_c (fun z => ⟨pk_in u 6 hu, br_t rfl (hy z)⟩) (fun z => hno z)⟩
theorem eg_goodF {post : Int32 → Prop} {t u v w : Nat} (ht7 : 7 ≤ t) (ht : t ≤ 31) (hu : u < 6) (hv : v < 6) (h1 : a1 0 = nI u) (h2 : a2 0 = nI v) (hG : eg_G (a3 0) w) (h5u : a5 u = nI w) (h5v : a5 v = nI 0) (hp : post 1) : wpX_isGood post (fn, fc, nI t, fs, fr, a1, a2, a3, a4, a5, a6, a7) 0 := by
  have hw := hG.1
  unfold wpX_isGood
  dsimp only
  rw [sb_cl0, h1, h2]
  refine ⟨pk_in 0 14 (by omega), nm_e ⟨pk_in 0 14 (by omega), nm_e ⟨pk_in u 6 hu, ?_⟩⟩⟩
  rw [nI_clamp (show u < 2 ^ 31 by omega), h5u]
  refine pk_eq w t (fun z => absurd z (by omega)) (fun _ => eg_ask0 ht7 ht hv h2 h5v hG ⟨pk_in u 6 hu, br_t rfl ⟨pk_in v 6 hv, ?_⟩⟩)
  rw [nI_clamp (show v < 2 ^ 31 by omega), h5v]
  exact pk_le t 0 (fun z => absurd z (by omega)) (fun _ => hp)
theorem eg_choice {post : Int32 → St2 → Prop} {c n t u v w : Nat} (hn : n ≤ 6) (ht7 : 7 ≤ t) (ht : t ≤ 31) (hE : eg_E c n u v w a1 a2 a3) (h5 : eg_F n u (eg_x u v w t) a5)
    (hB : c = 0 ∨ (1 ≤ w ∧ u = v ∧ ¬ a4 u = 1) → post (-2) (nI n, nI c, nI t, -1, 1, a1, a2, a3, a4, a5, a6, a7))
    (hA : c = 1 → ¬ (1 ≤ w ∧ u = v ∧ ¬ a4 u = 1) → post 0 (nI n, nI c, nI t, -1, 1, a1, a2, a3, a4, a5, a6, a7)) :
    wpX_choice post (nI n, nI c, nI t, -1, 1, a1, a2, a3, a4, a5, a6, a7) (nI u) := by
  obtain ⟨hu, hv, hc⟩ := hE
  unfold wpX_choice
  dsimp only
  refine eg_vy hn hu (br_f (by decide) (eg_ref1 ?_))
  show ∃ fu, wX_choice_16 post (nI u) (nI n) (nI c) (nI t) (-1) 1 a1 a2 a3 a4 a5 a6 a7 fu 0
  rcases hc with ⟨rfl, hw⟩ | ⟨rfl, h1, h2, hG⟩
  · exact ⟨1, pk_le 0 0 (fun _ => hB (Or.inl rfl)) (fun z => absurd z (by omega))⟩
  · refine ⟨2, pk_le 1 0 (fun z => absurd z (by omega)) (fun _ => ⟨pk_in 0 14 (by omega), br_t h1 ?_⟩)⟩
    by_cases hL : 1 ≤ w ∧ u = v
    · rw [eg_xL hL] at h5
      exact eg_goodT (by omega) h1 (by rw [h2, hL.2]) (by rw [h5 u hu, if_pos rfl]) (fun z => br_f (by decide) (hA rfl (fun q => q.2.2 z))) (fun z => br_t rfl (nm_r (nI_1 0) (pk_le 1 1 (fun _ => hB (Or.inr ⟨hL.1, hL.2, z⟩)) (fun z => absurd z (by omega)))))
    · rw [eg_xN hL] at h5
      refine eg_goodF ht7 ht (by omega) (by omega) h1 h2 hG (by rw [h5 u hu, if_pos rfl]) ?_ (br_f (by decide) (hA rfl (fun q => hL ⟨q.1, q.2.1⟩)))
      rw [h5 v hv]
      by_cases e : v = u
      · rw [if_pos e, show w = 0 from by
          rcases Nat.eq_zero_or_pos w with q | q
          · exact q
          · exact absurd ⟨q, e.symm⟩ hL]
      · rw [if_neg e]
theorem eg_choiceI {post : Int32 → St2 → Prop} {n : Nat} {p : Int32} (h : p < 0 ∨ nI n ≤ p) (hp : post (-1) (nI n, fc, ft, fs, fr, a1, a2, a3, a4, a5, a6, a7)) : wpX_choice post (nI n, fc, ft, fs, fr, a1, a2, a3, a4, a5, a6, a7) p := by
  unfold wpX_choice
  dsimp only
  exact eg_vn h (br_t rfl hp)
theorem eg_link0 {post : Int32 → St2 → Prop} {n : Nat} {p q g : Int32} (h : p < 0 ∨ nI n ≤ p) (hp : post (-1) (nI n, fc, ft, fs, fr, a1, a2, a3, a4, a5, a6, a7)) : wpX_link post (nI n, fc, ft, fs, fr, a1, a2, a3, a4, a5, a6, a7) p q g := by
  unfold wpX_link
  dsimp only
  exact eg_vn h (br_t rfl hp)
theorem eg_link1 {post : Int32 → St2 → Prop} {n u : Nat} {q g : Int32} (hn : n ≤ 6) (hu : u < n) (h : q < 0 ∨ nI n ≤ q) (hp : post (-1) (nI n, fc, ft, fs, fr, a1, a2, a3, a4, a5, a6, a7)) : wpX_link post (nI n, fc, ft, fs, fr, a1, a2, a3, a4, a5, a6, a7) (nI u) q g := by
  unfold wpX_link
  dsimp only
  exact eg_vy hn hu (br_f (by decide) (eg_vn h (br_t rfl hp)))
theorem eg_link2 {post : Int32 → St2 → Prop} {n u v : Nat} {g : Int32} (hn : n ≤ 6) (hu : u < n) (hv : v < n) (h : g < (-6) ∨ ¬ g ≤ 6) (hp : post (-2) (nI n, fc, ft, fs, fr, a1, a2, a3, a4, a5, a6, a7)) : wpX_link post (nI n, fc, ft, fs, fr, a1, a2, a3, a4, a5, a6, a7) (nI u) (nI v) g := by
  unfold wpX_link
  dsimp only
  exact eg_vy hn hu (br_f (by decide) (eg_vy hn hv (br_f (by decide) (br_c (fun _ => hp) (fun z => br_f (h.resolve_left z) hp)))))
theorem eg_link3 {post : Int32 → St2 → Prop} {n u v : Nat} {g : Int32} (hn : n ≤ 6) (hu : u < n) (hv : v < n) (h1 : ¬ g < (-6)) (h2 : g ≤ 6) (hp : post 0 (nI n, nI 1, ft, fs, 0, upd a1 0 (nI u), upd a2 0 (nI v), upd a3 0 g, a4, a5, a6, a7)) : wpX_link post (nI n, 0, ft, fs, fr, a1, a2, a3, a4, a5, a6, a7) (nI u) (nI v) g := by
  unfold wpX_link
  dsimp only
  refine eg_vy hn hu (br_f (by decide) (eg_vy hn hv (br_f (by decide) (br_f h1 (br_t h2 (br_f (by decide) ?_))))))
  unfold wpX_degree
  dsimp only
  rw [sb_cl0]
  refine ⟨1, pk_le 0 0 (fun _ => br_f (by decide) ⟨pk_in 0 14 (by omega), nm_e ⟨pk_in 0 14 (by omega), nm_e ⟨pk_in 0 14 (by omega), nm_e (nm_r (e' := nI 1) (by decide) ?_)⟩⟩⟩) (fun z => absurd z (by omega))⟩
  rw [show nI 1 - 1 = 0 by decide]
  exact hp
theorem eg_give22 {post : Int32 → St2 → Prop} {u : Nat} {g : Int32} (hu : u < 6) (hp : post (a4 u) (fn, fc, ft, fs, 0, a1, a2, a3, upd a4 u g, a5, a6, a7)) : wX_give_22 post (nI u) g fn fc ft fs fr a1 a2 a3 a4 a5 a6 a7 := by
  unfold wX_give_22
  rw [nI_clamp (show u < 2 ^ 31 by omega)]
  exact ⟨pk_in u 6 hu, nm_e ⟨pk_in u 6 hu, nm_e hp⟩⟩
theorem eg_give1 {post : Int32 → St2 → Prop} {n u : Nat} {g : Int32} (hn : n ≤ 6) (hu : u < n) (hA : g = 0 ∨ g = 1 → post (a4 u) (nI n, fc, ft, fs, 0, a1, a2, a3, upd a4 u g, a5, a6, a7)) (hB : ¬ (g = 0 ∨ g = 1) → post (-2) (nI n, fc, ft, fs, fr, a1, a2, a3, a4, a5, a6, a7)) : wpX_give post (nI n, fc, ft, fs, fr, a1, a2, a3, a4, a5, a6, a7) (nI u) g := by
  unfold wpX_give
  dsimp only
  exact eg_vy hn hu (br_f (by decide) (br_c (fun z => eg_give22 (by omega) (hA (Or.inl z))) (fun z => br_c (fun z' => eg_give22 (by omega) (hA (Or.inr z'))) (fun z' => hB (fun q => q.elim z z')))))
theorem eg_give0 {post : Int32 → St2 → Prop} {n : Nat} {p g : Int32} (h : p < 0 ∨ nI n ≤ p) (hp : post (-1) (nI n, fc, ft, fs, fr, a1, a2, a3, a4, a5, a6, a7)) : wpX_give post (nI n, fc, ft, fs, fr, a1, a2, a3, a4, a5, a6, a7) p g := by
  unfold wpX_give
  dsimp only
  exact eg_vn h (br_t rfl hp)
end
end
section
/-! the law's joins, from the end to the beginning -/
section
variable {post : Int32 → St0 → Prop} {mc ms kc ks : Nat} {a1 a2 a3 a4 a5 a6 a7 : Nat → Int32}
/-! u is a vertex -/
theorem eg_335 {c n t u v w : Nat} {x4 z : Int32} (hp : post 1 ()) (hn : n ≤ 6) (ht7 : 7 ≤ t) (ht : t ≤ 31) (hE : eg_E c n u v w a1 a2 a3) (h5 : eg_F n u (eg_x u v w t) a5) (h4 : a4 u = 1 ↔ x4 = 1) (hz : z = 0 ↔ c = 0 ∨ (1 ≤ w ∧ u = v ∧ ¬ x4 = 1)) : wL_lawOf_335 post mc ms (nI u) 1 z kc ks (nI n) (nI c) (nI t) (-1) 1 a1 a2 a3 a4 a5 a6 a7 := by
  unfold wL_lawOf_335
  rw [← h4] at hz
  exact eg_choice hn ht7 ht hE h5 (fun h => br_f (by decide) (br_t (hz.mpr h) (br_t rfl hp))) (fun h1 h2 => br_f (by decide) (br_f (fun q => (hz.mp q).elim (fun r => absurd r (by omega)) h2) (br_t rfl hp)))
theorem eg_308 {c n t u v w : Nat} {x4 x12 z0 z1 z2 : Int32} (hp : post 1 ()) (hn : n ≤ 6) (ht7 : 7 ≤ t) (ht : t ≤ 31) (hE : eg_E c n u v w a1 a2 a3) (h5 : eg_F n u (eg_x u v w t) a5) (h4 : a4 u = 1 ↔ x4 = 1) (h12 : x12 = 0 ↔ ¬ (1 ≤ w ∧ u = v)) (hz : z2 = z1 - z0) : wL_lawOf_308 post mc ms (nI u) x4 1 (nI c) x12 z0 z1 z2 kc ks (nI n) (nI c) (nI t) (-1) 1 a1 a2 a3 a4 a5 a6 a7 := by
  have hc1 := eg_c1 hE
  have R := fun z hz => eg_335 (post := post) (mc := mc) (ms := ms) (kc := kc) (ks := ks) (a6 := a6) (a7 := a7) (z := z) hp hn ht7 ht hE h5 h4 hz
  have d1 : ¬ (1 : Int32) = 0 := by decide
  refine br_t hz (pk_eq c 0 (fun h => R 0 ⟨fun _ => Or.inl h, fun _ => rfl⟩) (fun h => br_c (fun g => R 1 ⟨fun q => absurd q d1, fun q => ?_⟩) (fun g => br_c (fun k => R 1 ⟨fun q => absurd q d1, fun q => ?_⟩) (fun k => R 0 ⟨fun _ => Or.inr ?_, fun _ => rfl⟩))))
  · exact q.elim (fun r => absurd r h) (fun r => absurd ⟨r.1, r.2.1⟩ (h12.mp g))
  · exact q.elim (fun r => absurd r h) (fun r => absurd k r.2.2)
  · have L : 1 ≤ w ∧ u = v := Classical.byContradiction (fun r => g (h12.mpr r))
    exact ⟨L.1, L.2, k⟩
theorem eg_274 {c n t u v w : Nat} {x4 x12 z0 z1 : Int32} (hp : post 1 ()) (hn : n ≤ 6) (ht7 : 7 ≤ t) (ht : t ≤ 31) (hE : eg_E c n u v w a1 a2 a3) (h5 : eg_F n u (eg_x u v w t) a5) (h4 : a4 u = 1 ↔ x4 = 1) (h12 : x12 = 0 ↔ ¬ (1 ≤ w ∧ u = v)) (hz : z1 = z0) : wL_lawOf_274 post mc ms (nI u) x4 (nI n) 1 (nI c) x12 (nI w) z0 z1 kc ks (nI n) (nI c) (nI t) (-1) 1 a1 a2 a3 a4 a5 a6 a7 := by
  have hw := eg_w6 hE
  have hu := hE.1
  unfold wL_lawOf_274
  refine br_t hz ?_
  by_cases w0 : w = 0
  · have x0 : eg_x u v w t = 0 := by rw [eg_xN (by omega), w0]
    exact eg_safe1 (b := false) hn hu (by omega) ht (eg_x31 hw ht) (by rw [x0]; decide) h5 (br_t (h12.mpr (by omega)) (pk_le w 0 (fun _ => eg_308 hp hn ht7 ht hE h5 h4 h12 (eg_mf n (by omega) u hu)) (fun g => absurd g (by omega))))
  · have x1 : 0 < eg_x u v w t := by
      by_cases hL : 1 ≤ w ∧ u = v
      · rw [eg_xL hL]
        omega
      · rw [eg_xN hL]
        omega
    have T := eg_308 (post := post) (mc := mc) (ms := ms) (kc := kc) (ks := ks) (a6 := a6) (a7 := a7) hp hn ht7 ht hE h5 h4 h12 (eg_mt n (by omega) u hu)
    exact eg_safe1 (b := true) hn hu (by omega) ht (eg_x31 hw ht) ⟨fun _ => x1, fun _ => rfl⟩ h5 (br_c (fun _ => pk_le w 0 (fun g => absurd g (by omega)) (fun _ => T)) (fun _ => T))
theorem eg_245 {c n t u v w : Nat} {x4 x12 : Int32} (hp : post 1 ()) (hn : n ≤ 6) (ht7 : 7 ≤ t) (ht : t ≤ 31) (hE : eg_E c n u v w a1 a2 a3) (h4 : a4 u = 1 ↔ x4 = 1) (h12 : x12 = 0 ↔ ¬ (1 ≤ w ∧ u = v)) : wL_lawOf_245 post mc ms (nI u) x4 (nI n) 1 (nI c) x12 (nI w) kc ks (nI n) (nI c) (nI t) (-1) 0 a1 a2 a3 a4 a5 a6 a7 := by
  have hw := eg_w6 hE
  unfold wL_lawOf_245
  refine eg_need hn ht7 ht hE (fun b5 b6 b7 h => ⟨fun e => ?_, fun e => ?_⟩)
  · have hL : 1 ≤ w ∧ u = v := Classical.byContradiction (fun r => by
      rw [eg_xN r] at e
      omega)
    exact br_f (by decide) (br_f (fun q => h12.mp q hL) (eg_274 hp hn ht7 ht hE h h4 h12 rfl))
  · have hL : ¬ (1 ≤ w ∧ u = v) := fun r => e (eg_xL r)
    exact br_f (by decide) (br_t (h12.mpr hL) (eg_274 hp hn ht7 ht hE h h4 h12 (by rw [eg_xN hL])))
theorem eg_204 {c n t u v w : Nat} {x2 x3 x4 z0 z1 : Int32} (hp : post 1 ()) (hn : n ≤ 6) (ht7 : 7 ≤ t) (ht : t ≤ 31) (hE : eg_E c n u v w a1 a2 a3) (h4 : a4 u = 1 ↔ x4 = 1) (hx : c = 1 → x2 = nI v ∧ x3 = a3 0) (hz : z1 = z0) : wL_lawOf_204 post mc ms (nI u) x2 x3 x4 (nI n) 1 (nI c) z0 z1 kc ks (nI n) (nI c) (nI t) (-1) 0 a1 a2 a3 a4 a5 a6 a7 := by
  have R0 := fun h12 => eg_245 (post := post) (mc := mc) (ms := ms) (kc := kc) (ks := ks) (a5 := a5) (a6 := a6) (a7 := a7) (x12 := 0) hp hn ht7 ht hE h4 h12
  have R1 := fun h12 => eg_245 (post := post) (mc := mc) (ms := ms) (kc := kc) (ks := ks) (a5 := a5) (a6 := a6) (a7 := a7) (x12 := 1) hp hn ht7 ht hE h4 h12
  have d1 : ¬ (1 : Int32) = 0 := by decide
  have d2 : ¬ nI 1 = 0 := by decide
  obtain ⟨hu, hv, hc⟩ := hE
  refine br_t hz ?_
  rcases hc with ⟨rfl, rfl⟩ | ⟨rfl, h1, h2, hG⟩
  · exact br_t rfl (br_t rfl (R0 ⟨fun _ => by omega, fun _ => rfl⟩))
  · obtain ⟨rfl, rfl⟩ := hx rfl
    obtain ⟨hw6, ⟨rfl, m, hm, e⟩ | ⟨hw1, e⟩⟩ := hG
    · have e0 : (0 : Int32) ≤ a3 0 := by
        rw [e]
        exact nI_pos' (by omega)
      have T : wL_lawOf_227 post mc ms (nI u) (a3 0) x4 (nI n) 1 (nI 1) kc ks (nI n) (nI 1) (nI t) (-1) 0 a1 a2 a3 a4 a5 a6 a7 := br_f d2 (br_t e0 (R0 ⟨fun _ => by omega, fun _ => rfl⟩))
      exact br_f d2 (br_c (fun _ => br_t e0 T) (fun _ => T))
    · have e0 : ¬ (0 : Int32) ≤ a3 0 := by
        rw [e]
        exact eg_neg hw1 hw6
      have en : -(a3 0) = nI w := by rw [e, eg_nn]
      rw [← en] at R0 R1
      refine br_f d2 (pk_eq u v (fun q => br_f e0 (br_f d2 (br_f e0 (R1 ⟨fun r => absurd r d1, fun r => absurd ⟨hw1, q⟩ r⟩)))) (fun q => ?_))
      exact br_f d2 (br_f e0 (R0 ⟨fun _ r => q r.2, fun _ => rfl⟩))
theorem eg_174 {c n t u v w : Nat} {x2 x3 x4 z0 : Int32} (hp : post 1 ()) (hn : n ≤ 6) (ht7 : 7 ≤ t) (ht : t ≤ 31) (hE : eg_E c n u v w a1 a2 a3) (h4 : a4 u = 0) (hx : c = 1 → x2 = nI v ∧ x3 = a3 0) (hz : z0 = 0 ↔ ¬ (x4 = 0 ∨ x4 = 1)) : wL_lawOf_174 post mc ms (nI u) x2 x3 x4 (nI n) 1 (nI c) z0 kc ks (nI n) (nI c) (nI t) (-1) 0 a1 a2 a3 a4 a5 a6 a7 := by
  have d1 : ¬ (1 : Int32) = 0 := by decide
  unfold wL_lawOf_174
  refine eg_give1 hn hE.1 (fun h => br_f d1 (br_f (fun q => hz.mp q h) (eg_204 hp hn ht7 ht hE (by rw [pk_us]) hx h4))) (fun h => br_f d1 (br_t (hz.mpr h) (eg_204 hp hn ht7 ht hE ?_ hx rfl)))
  rw [h4]
  exact ⟨fun q => absurd q.symm d1, fun q => absurd (Or.inr q) h⟩
theorem eg_153 {c n t u v w : Nat} {x2 x3 x4 z0 z1 : Int32} (hp : post 1 ()) (hn : n ≤ 6) (ht7 : 7 ≤ t) (ht : t ≤ 31) (hE : eg_E c n u v w a1 a2 a3) (h4 : a4 u = 0) (hx : c = 1 → x2 = nI v ∧ x3 = a3 0) (hz : z1 = z0) : wL_lawOf_153 post mc ms (nI u) x2 x3 x4 (nI n) 1 (nI c) z0 z1 kc ks (nI n) (nI c) (nI t) (-1) 0 a1 a2 a3 a4 a5 a6 a7 := by
  have d1 : ¬ (1 : Int32) = 0 := by decide
  exact br_t hz (br_c (fun h => eg_174 (z0 := 1) hp hn ht7 ht hE h4 hx ⟨fun q => absurd q d1, fun q => absurd (Or.inl h) q⟩) (fun h => br_c (fun h' => eg_174 (z0 := 1) hp hn ht7 ht hE h4 hx ⟨fun q => absurd q d1, fun q => absurd (Or.inr h') q⟩) (fun h' => eg_174 (z0 := 0) hp hn ht7 ht hE h4 hx ⟨fun _ q => q.elim h h', fun _ => rfl⟩)))
/-! u is no vertex -/
theorem eg_204I {n t : Nat} {p x2 x3 x4 : Int32} (hp : post 1 ()) (hn2 : 2 ≤ n) (hn : n ≤ 6) (ht7 : 7 ≤ t) (ht : t ≤ 31) (h : p < 0 ∨ nI n ≤ p) : wL_lawOf_204 post mc ms p x2 x3 x4 (nI n) 0 0 (-1) (-1) kc ks (nI n) 0 (nI t) (-1) 0 a1 a2 a3 a4 a5 a6 a7 := by
  have R : ∀ b5 b6 b7 : Nat → Int32, wL_lawOf_335 post mc ms p 0 0 kc ks (nI n) 0 (nI t) (-1) 1 a1 a2 a3 a4 b5 b6 b7 := fun b5 b6 b7 => by
    unfold wL_lawOf_335
    exact eg_choiceI h (br_t rfl (br_t rfl hp))
  have S : wL_lawOf_274 post mc ms p x4 (nI n) 0 0 0 0 (-1) (-1) kc ks (nI n) 0 (nI t) (-1) 0 a1 a2 a3 a4 a5 a6 a7 := by
    unfold wL_lawOf_274
    exact br_t rfl (eg_safe0 hn2 hn ht7 ht (fun b5 b6 b7 => br_t rfl (br_t (by decide) (br_t (eg_mf n (by omega) 0 (by omega)) (br_t rfl (R b5 b6 b7))))))
  have T : wL_lawOf_245 post mc ms p x4 (nI n) 0 0 0 0 kc ks (nI n) 0 (nI t) (-1) 0 a1 a2 a3 a4 a5 a6 a7 := by
    unfold wL_lawOf_245
    exact eg_needI h (br_t rfl S)
  exact br_t rfl (br_t rfl (br_t rfl T))
theorem eg_174I {n t : Nat} {p x2 x3 x4 z0 : Int32} (hp : post 1 ()) (hn2 : 2 ≤ n) (hn : n ≤ 6) (ht7 : 7 ≤ t) (ht : t ≤ 31) (h : p < 0 ∨ nI n ≤ p) : wL_lawOf_174 post mc ms p x2 x3 x4 (nI n) 0 0 z0 kc ks (nI n) 0 (nI t) (-1) 0 a1 a2 a3 a4 a5 a6 a7 := by
  unfold wL_lawOf_174
  exact eg_give0 h (br_t rfl (eg_204I hp hn2 hn ht7 ht h))
theorem eg_118I {n t : Nat} {p x2 x3 x4 x8 x9 : Int32} (hp : post 1 ()) (hn2 : 2 ≤ n) (hn : n ≤ 6) (ht7 : 7 ≤ t) (ht : t ≤ 31) (h : p < 0 ∨ nI n ≤ p) : wL_lawOf_118 post mc ms p x2 x3 x4 (nI n) 0 x8 x9 0 kc ks (nI n) 0 (nI t) (-1) 0 a1 a2 a3 a4 a5 a6 a7 := by
  have G := fun z0 => eg_174I (post := post) (mc := mc) (ms := ms) (kc := kc) (ks := ks) (a1 := a1) (a2 := a2) (a3 := a3) (a4 := a4) (a5 := a5) (a6 := a6) (a7 := a7) (x2 := x2) (x3 := x3) (x4 := x4) (z0 := z0) hp hn2 hn ht7 ht h
  unfold wL_lawOf_118
  exact eg_link0 h (br_t rfl (br_t rfl (br_c (fun _ => G 1) (fun _ => br_c (fun _ => G 1) (fun _ => G 0)))))
theorem eg_96I {n t : Nat} {p x2 x3 x4 x8 z0 : Int32} (hp : post 1 ()) (hn2 : 2 ≤ n) (hn : n ≤ 6) (ht7 : 7 ≤ t) (ht : t ≤ 31) (h : p < 0 ∨ nI n ≤ p) : wL_lawOf_96 post mc ms p x2 x3 x4 (nI n) 0 x8 z0 kc ks (nI n) 0 (nI t) (-1) 0 a1 a2 a3 a4 a5 a6 a7 :=
  br_t rfl (eg_118I hp hn2 hn ht7 ht h)
theorem eg_77I {n t : Nat} {p x2 x3 x4 z0 : Int32} (hp : post 1 ()) (hn2 : 2 ≤ n) (hn : n ≤ 6) (ht7 : 7 ≤ t) (ht : t ≤ 31) (h : p < 0 ∨ nI n ≤ p) : wL_lawOf_77 post mc ms p x2 x3 x4 (nI n) 0 z0 kc ks (nI n) 0 (nI t) (-1) 0 a1 a2 a3 a4 a5 a6 a7 :=
  br_c (fun _ => eg_96I (z0 := 0) hp hn2 hn ht7 ht h) (fun _ => br_c (fun _ => eg_96I (z0 := 0) hp hn2 hn ht7 ht h) (fun _ => eg_96I (z0 := 1) hp hn2 hn ht7 ht h))
theorem eg_60I {n t : Nat} {p x2 x3 x4 : Int32} (hp : post 1 ()) (hn2 : 2 ≤ n) (hn : n ≤ 6) (ht7 : 7 ≤ t) (ht : t ≤ 31) (h : p < 0 ∨ nI n ≤ p) : wL_lawOf_60 post mc ms p x2 x3 x4 (nI n) 0 kc ks (nI n) 0 (nI t) (-1) 0 a1 a2 a3 a4 a5 a6 a7 :=
  br_c (fun _ => eg_77I (z0 := 0) hp hn2 hn ht7 ht h) (fun _ => br_c (fun _ => eg_77I (z0 := 0) hp hn2 hn ht7 ht h) (fun _ => eg_77I (z0 := 1) hp hn2 hn ht7 ht h))
/-! u is a vertex: the link -/
theorem eg_118V {n t u : Nat} {x2 x3 x4 x9 : Int32} (hp : post 1 ()) (hn : n ≤ 6) (ht7 : 7 ≤ t) (ht : t ≤ 31) (hu : u < n) (h4 : a4 u = 0) (h : x2 < 0 ∨ nI n ≤ x2) : wL_lawOf_118 post mc ms (nI u) x2 x3 x4 (nI n) 1 0 x9 0 kc ks (nI n) 0 (nI t) (-1) 0 a1 a2 a3 a4 a5 a6 a7 := by
  unfold wL_lawOf_118
  exact eg_link1 hn hu h (br_f (by decide) (br_t rfl (eg_153 (c := 0) (v := u) (w := 0) hp hn ht7 ht ⟨hu, hu, Or.inl ⟨rfl, rfl⟩⟩ h4 (fun q => absurd q (by decide)) rfl)))
theorem eg_96V {n t u : Nat} {x2 x3 x4 z0 : Int32} (hp : post 1 ()) (hn : n ≤ 6) (ht7 : 7 ≤ t) (ht : t ≤ 31) (hu : u < n) (h4 : a4 u = 0) (h : x2 < 0 ∨ nI n ≤ x2) : wL_lawOf_96 post mc ms (nI u) x2 x3 x4 (nI n) 1 0 z0 kc ks (nI n) 0 (nI t) (-1) 0 a1 a2 a3 a4 a5 a6 a7 :=
  br_f (by decide) (br_t rfl (eg_118V hp hn ht7 ht hu h4 h))
theorem eg_77V {n t u : Nat} {x2 x3 x4 : Int32} (hp : post 1 ()) (hn : n ≤ 6) (ht7 : 7 ≤ t) (ht : t ≤ 31) (hu : u < n) (h4 : a4 u = 0) (h : x2 < 0 ∨ nI n ≤ x2) : wL_lawOf_77 post mc ms (nI u) x2 x3 x4 (nI n) 1 0 kc ks (nI n) 0 (nI t) (-1) 0 a1 a2 a3 a4 a5 a6 a7 :=
  br_c (fun _ => eg_96V (z0 := 0) hp hn ht7 ht hu h4 h) (fun _ => br_c (fun _ => eg_96V (z0 := 0) hp hn ht7 ht hu h4 h) (fun _ => eg_96V (z0 := 1) hp hn ht7 ht hu h4 h))
theorem eg_118W {n t u v : Nat} {x3 x4 : Int32} (hp : post 1 ()) (hn : n ≤ 6) (ht7 : 7 ≤ t) (ht : t ≤ 31) (hu : u < n) (hv : v < n) (h4 : a4 u = 0) (h : x3 < (-6) ∨ ¬ x3 ≤ 6) : wL_lawOf_118 post mc ms (nI u) (nI v) x3 x4 (nI n) 1 1 0 0 kc ks (nI n) 0 (nI t) (-1) 0 a1 a2 a3 a4 a5 a6 a7 := by
  unfold wL_lawOf_118
  exact eg_link2 hn hu hv h (br_f (by decide) (br_f (by decide) (br_t rfl (eg_153 (c := 0) (v := v) (w := 0) hp hn ht7 ht ⟨hu, hv, Or.inl ⟨rfl, rfl⟩⟩ h4 (fun q => absurd q (by decide)) rfl))))
theorem eg_118G {n t u v : Nat} {x3 x4 : Int32} (hp : post 1 ()) (hn : n ≤ 6) (ht7 : 7 ≤ t) (ht : t ≤ 31) (hu : u < n) (hv : v < n) (h4 : a4 u = 0) (h1 : ¬ x3 < (-6)) (h2 : x3 ≤ 6) : wL_lawOf_118 post mc ms (nI u) (nI v) x3 x4 (nI n) 1 1 1 1 kc ks (nI n) 0 (nI t) (-1) 0 a1 a2 a3 a4 a5 a6 a7 := by
  obtain ⟨w, hw⟩ := eg_gain h1 h2
  unfold wL_lawOf_118
  exact eg_link3 hn hu hv h1 h2 (br_f (by decide) (br_f (by decide) (br_f (by decide) (eg_153 (c := 1) (v := v) (w := w) hp hn ht7 ht ⟨hu, hv, Or.inr ⟨rfl, pk_us, pk_us, by rw [pk_us]; exact hw⟩⟩ h4 (fun _ => ⟨rfl, pk_us.symm⟩) rfl))))
theorem eg_77G {n t u v : Nat} {x3 x4 : Int32} (hp : post 1 ()) (hn : n ≤ 6) (ht7 : 7 ≤ t) (ht : t ≤ 31) (hu : u < n) (hv : v < n) (h4 : a4 u = 0) : wL_lawOf_77 post mc ms (nI u) (nI v) x3 x4 (nI n) 1 1 kc ks (nI n) 0 (nI t) (-1) 0 a1 a2 a3 a4 a5 a6 a7 := by
  have W : (x3 < (-6) ∨ ¬ x3 ≤ 6) → wL_lawOf_95 post mc ms (nI u) (nI v) x3 x4 (nI n) 1 1 kc ks (nI n) 0 (nI t) (-1) 0 a1 a2 a3 a4 a5 a6 a7 := fun h => br_f (by decide) (br_f (by decide) (br_t rfl (eg_118W hp hn ht7 ht hu hv h4 h)))
  refine br_c (fun h => W (Or.inl h)) (fun h => br_c (fun h' => W (Or.inr ?_)) (fun h' => br_f (by decide) (br_f (by decide) (br_f (by decide) (eg_118G hp hn ht7 ht hu hv h4 h ?_)))))
  · rw [Int32.le_iff_toInt_le]
    rw [Int32.lt_iff_toInt_lt] at h'
    omega
  · rw [Int32.le_iff_toInt_le]
    rw [Int32.lt_iff_toInt_lt] at h'
    omega
theorem eg_60V {n t u : Nat} {x2 x3 x4 : Int32} (hp : post 1 ()) (hn : n ≤ 6) (ht7 : 7 ≤ t) (ht : t ≤ 31) (hu : u < n) (h4 : a4 u = 0) : wL_lawOf_60 post mc ms (nI u) x2 x3 x4 (nI n) 1 kc ks (nI n) 0 (nI t) (-1) 0 a1 a2 a3 a4 a5 a6 a7 := by
  refine br_c (fun h => eg_77V hp hn ht7 ht hu h4 (Or.inl h)) (fun h => br_c (fun h' => eg_77V hp hn ht7 ht hu h4 (Or.inr h')) (fun h' => ?_))
  obtain ⟨j, hj, e, _⟩ := pk_mu h h' (by omega)
  subst e
  exact eg_77G hp hn ht7 ht hu hj h4
theorem eg_33 {n t : Nat} {x1 x2 x3 x4 : Int32} (hp : post 1 ()) (hn2 : 2 ≤ n) (hn : n ≤ 6) (ht7 : 7 ≤ t) (ht : t ≤ 31) (h4 : ∀ u, a4 u = 0) : wL_lawOf_33 post mc ms x1 x2 x3 x4 (nI n) kc ks (nI n) 0 (nI t) (-1) 0 a1 a2 a3 a4 a5 a6 a7 := by
  unfold wL_lawOf_33 wpX_vertices
  dsimp only
  refine br_t rfl (br_c (fun h => eg_60I hp hn2 hn ht7 ht (Or.inl h)) (fun h => br_c (fun h' => eg_60I hp hn2 hn ht7 ht (Or.inr h')) (fun h' => ?_)))
  obtain ⟨j, hj, e, _⟩ := pk_mu h h' (by omega)
  subst e
  exact eg_60V hp hn ht7 ht hj (h4 j)
theorem eg_lawOf {p0 p1 p2 p3 p4 : Int32} (hp : post 1 ()) : wpL_lawOf post 54 864 () p0 p1 p2 p3 p4 := by
  have I : ∀ n, 2 ≤ n → n ≤ 6 → ∀ P : St2 → Prop, P (nI n, 0, nI (6 * (n - 1) + 1), -1, 0, fun _ => 0, fun _ => 0, fun _ => 0, fun _ => 0, fun _ => 0, fun _ => 0, fun _ => 0) → wX_init_89 P 7 68 7 68 (nI n) 0 0 0 0 (fun _ => 0) (fun _ => 0) (fun _ => 0) (fun _ => 0) (fun _ => 0) (fun _ => 0) (fun _ => 0) := fun n h2 h6 P h => nm_r (eg_top n (by omega) h2) h
  have B : ∀ n, 2 ≤ n → n ≤ 6 → wL_lawOf_33 post 54 864 p1 p2 p3 p4 (nI n) (1 + 7) (12 + 68) (nI n) 0 (nI (6 * (n - 1) + 1)) (-1) 0 (fun _ => 0) (fun _ => 0) (fun _ => 0) (fun _ => 0) (fun _ => 0) (fun _ => 0) (fun _ => 0) := fun n h2 h6 => eg_33 hp h2 h6 (by omega) (by omega) (fun _ => rfl)
  unfold wpL_lawOf
  refine ⟨by omega, by omega, 7, 68, by omega, by omega, ?_⟩
  unfold wpX_init
  dsimp only
  refine ⟨by omega, by omega, by omega, by omega, by omega, by omega, by omega, by omega, by omega, by omega, by omega, by omega, by omega, by omega, ?_⟩
  by_cases h2 : 2 ≤ p0
  · refine br_t h2 ?_
    by_cases h6 : p0 ≤ 6
    · have h0 : ¬ p0 < 0 := by
        rw [Int32.le_iff_toInt_le] at h2
        rw [Int32.lt_iff_toInt_lt]
        have e2 : (2 : Int32).toInt = 2 := by decide
        have e0 : (0 : Int32).toInt = 0 := by decide
        omega
      obtain ⟨n, hn, e⟩ := nI_of2 (M := 6) (n := 6) (by decide) h0 h6
      subst e
      have hn2 : 2 ≤ n := (nI_leI (a := 2) (b := n) (by omega) (by omega)).mp h2
      exact br_t h6 (I n hn2 hn _ (br_t h2 (br_t h6 (B n hn2 hn))))
    · exact br_f h6 (I 6 (by omega) (by omega) _ (br_t h2 (br_f h6 (B 6 (by omega) (by omega)))))
  · exact br_f h2 (br_t (by decide) (I 2 (by omega) (by omega) _ (br_f h2 (br_t (by decide) (B 2 (by omega) (by omega))))))
end
theorem eg_cell {post : Int32 → Prop} {L i : Nat} {xs : Nat → Int32} {u : St0} (hL : L ≤ 5) (hi : i < 5) (h : ∀ r, post r) : wpL_cellAt post L xs u (nI i) :=
  pk_le L i (fun _ => h _) (fun z => ⟨pk_in i L z, h _⟩)
theorem i_vc (xs : Nat → Int32) (L : Nat) (hL : L ≤ 5) : wpL_law (fun r => r = 1) L xs :=
  eg_cell (i := 0) hL (by omega) (fun r1 => eg_cell (i := 1) hL (by omega) (fun r2 => eg_cell (i := 2) hL (by omega) (fun r3 => eg_cell (i := 3) hL (by omega) (fun r4 => eg_cell (i := 4) hL (by omega) (fun r5 => ⟨54, 864, by omega, by omega, eg_lawOf rfl⟩)))))
end
