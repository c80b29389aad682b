section
/-! the pure picture: node 0 is the root, 1..n the chain of f, n+1 the node g below n-1, n+2..n+9 the chain of g below the root; m: how many nodes there are -/
/-- the node above i -/
def ft_pa (n i : Nat) : Nat := if i ≤ n then i - 1 else if i = n + 1 then n - 1 else if i = n + 2 then 0 else i - 1
/-- the function of node i > 0 -/
def ft_fn (f g n i : Nat) : Nat := if i ≤ n then f else g
def ft_ap (n m i : Nat) : Nat := if i < m then ft_pa n i else 0
/-- the first child of i -/
def ft_ch (n m i : Nat) : Nat := if i = 0 then (if n + 2 < m then n + 2 else if 1 < m then 1 else 0) else if i + 1 < n then (if i + 1 < m then i + 1 else 0) else if i + 1 = n then (if n + 1 < m then n + 1 else if n < m then n else 0) else if i ≤ n + 1 then 0 else if i + 1 < m then i + 1 else 0
/-- the next sister of i -/
def ft_si (n m i : Nat) : Nat := if i < m then (if i = n + 1 then n else if i = n + 2 then 1 else 0) else 0
/-- the depth of node i -/
def ft_dp (n i : Nat) : Nat := if i ≤ n then i else if i = n + 1 then n else i - (n + 1)
def ft_F (f g n m : Nat) : Nat → Int32 := fun i => if i = 0 then -1 else nI (if i < m then ft_fn f g n i else 0)
def ft_N (t : Nat → Nat) : Nat → Int32 := fun i => nI (t i)
/-- the whole state -/
abbrev ft_St (f g n d s m : Nat) (st o t : Nat → Nat) : St2 := (nI d, nI s, nI m, ft_N st, ft_F f g n m, ft_N (ft_ap n m), ft_N (ft_ch n m), ft_N (ft_si n m), ft_N o, ft_N t)
theorem ft_cls {n m : Nat} (h1 : 1 ≤ m) : (m ≤ n ∧ ft_pa n m = m - 1) ∨ (m = n + 1 ∧ ft_pa n m = n - 1) ∨ (m = n + 2 ∧ ft_pa n m = 0) ∨ (n + 3 ≤ m ∧ ft_pa n m = m - 1) := by
  unfold ft_pa
  (repeat' split) <;> omega
theorem ft_fnL {f g n i : Nat} (h : i ≤ n) : ft_fn f g n i = f := if_pos h
theorem ft_fnG {f g n i : Nat} (h : n < i) : ft_fn f g n i = g := if_neg (by omega)
theorem ft_Fv {f g n m i : Nat} (h0 : 0 < i) (h : i < m) : ft_F f g n m i = nI (ft_fn f g n i) := by
  unfold ft_F
  rw [if_neg (by omega), if_pos h]
theorem ft_F0 {f g n m : Nat} : ft_F f g n m 0 = -1 := rfl
theorem ft_m1 {x : Nat} (h : x < 2 ^ 31) : ¬ (-1 : Int32) = nI x := by
  intro e
  have e2 := congrArg Int32.toInt e
  rw [nI_toInt h] at e2
  have e3 : (-1 : Int32).toInt = -1 := by decide
  omega
theorem ft_upd {t t' : Nat → Nat} {k v : Nat} (h : ∀ i, t' i = if i = k then v else t i) : upd (ft_N t) k (nI v) = ft_N t' := by
  funext i
  show (if i = k then nI v else nI (t i)) = nI (t' i)
  rw [h i]
  split <;> rfl
theorem ft_updA {t t' : Nat → Nat} {k w : Nat} (h : ∀ i, t' i = if i = k then t i + w else t i) : upd (ft_N t) k (ft_N t k + nI w) = ft_N t' := by
  have e : ft_N t k + nI w = nI (t k + w) := nI_add _ _
  rw [e]
  refine ft_upd (fun i => ?_)
  rw [h i]
  by_cases z : i = k
  · rw [if_pos z, if_pos z, z]
  · rw [if_neg z, if_neg z]
theorem ft_updF {f g n m : Nat} (h1 : 1 ≤ m) : upd (ft_F f g n m) m (nI (ft_fn f g n m)) = ft_F f g n (m + 1) := by
  funext i
  show (if i = m then nI (ft_fn f g n m) else ft_F f g n m i) = ft_F f g n (m + 1) i
  by_cases e : i = m
  · rw [if_pos e, e, ft_Fv (by omega) (by omega)]
  · rw [if_neg e]
    unfold ft_F
    by_cases z : i = 0
    · rw [if_pos z, if_pos z]
    · rw [if_neg z, if_neg z]
      by_cases y : i < m
      · rw [if_pos y, if_pos (by omega)]
      · rw [if_neg y, if_neg (by omega)]
theorem ft_updC {n m : Nat} (hn : 2 ≤ n) (h1 : 1 ≤ m) (i : Nat) : ft_ch n (m + 1) i = if i = ft_pa n m then m else ft_ch n m i := by
  rcases ft_cls (n := n) h1 with ⟨h, e⟩ | ⟨h, e⟩ | ⟨h, e⟩ | ⟨h, e⟩ <;> rw [e] <;> unfold ft_ch <;> (repeat' split) <;> omega
theorem ft_updS {n m : Nat} (hn : 2 ≤ n) (h1 : 1 ≤ m) (i : Nat) : ft_si n (m + 1) i = if i = m then ft_ch n m (ft_pa n m) else ft_si n m i := by
  rcases ft_cls (n := n) h1 with ⟨h, e⟩ | ⟨h, e⟩ | ⟨h, e⟩ | ⟨h, e⟩ <;> rw [e] <;> unfold ft_ch ft_si <;> (repeat' split) <;> omega
theorem ft_updP {n m : Nat} (i : Nat) : ft_ap n (m + 1) i = if i = m then ft_pa n m else ft_ap n m i := by
  unfold ft_ap
  by_cases e : i = m
  · rw [if_pos e, if_pos (by omega), e]
  · rw [if_neg e]
    by_cases y : i < m
    · rw [if_pos y, if_pos (by omega)]
    · rw [if_neg y, if_neg (by omega)]
theorem ft_paLt {n i : Nat} (h : 0 < i) : ft_pa n i < i := by
  rcases ft_cls (n := n) h with ⟨h, e⟩ | ⟨h, e⟩ | ⟨h, e⟩ | ⟨h, e⟩ <;> omega
theorem ft_add {post : Int32 → St2 → Prop} {f g n m : Nat} {d s : Int32} {a1 a6 a7 : Nat → Int32} (hn : 2 ≤ n) (h1 : 1 ≤ m) (h2 : m ≤ 300)
    (H : post (nI m) (d, s, nI (m + 1), a1, ft_F f g n (m + 1), ft_N (ft_ap n (m + 1)), ft_N (ft_ch n (m + 1)), ft_N (ft_si n (m + 1)), a6, a7)) :
    wpX_addChild post (d, s, nI m, a1, ft_F f g n m, ft_N (ft_ap n m), ft_N (ft_ch n m), ft_N (ft_si n m), a6, a7) (nI (ft_pa n m)) (nI (ft_fn f g n m)) := by
  have hp : ft_pa n m < 300 := Nat.lt_of_lt_of_le (ft_paLt h1) h2
  have vm : vp_in (nI m) 321 := vp_in_nI (by omega) (by omega)
  have vq : vp_in (nI (ft_pa n m)) 321 := vp_in_nI (by omega) (by omega)
  have em : (nI m).toNatClampNeg = m := nI_clamp (by omega)
  have eq : (nI (ft_pa n m)).toNatClampNeg = ft_pa n m := nI_clamp (by omega)
  unfold wpX_addChild
  dsimp only
  rw [em, eq]
  exact nm_r (nI_1 m) ⟨vm, nm_r (ft_updF h1) ⟨vm, nm_r (ft_upd ft_updP) ⟨vq, vm, nm_r (ft_upd (ft_updS hn h1)) ⟨vq, nm_r (ft_upd (ft_updC hn h1)) H⟩⟩⟩⟩
/-! childWith -/
def ft_hit (f g n m q r x : Nat) : Prop := 0 < r ∧ r < m ∧ ft_ch n m q = r ∧ ft_fn f g n r = x
def ft_off (f g n m q x : Nat) : Prop := ft_ch n m q = 0 ∨ (0 < ft_ch n m q ∧ ft_ch n m q < m ∧ ¬ nI (ft_fn f g n (ft_ch n m q)) = nI x ∧ ft_si n m (ft_ch n m q) = 0)
def ft_mis (f g n m q x : Nat) : Prop := ft_pa n m = q ∧ ft_fn f g n m = x ∧ ft_off f g n m q x
theorem ft_cwHit {post : Int32 → Prop} {f g n m q r x : Nat} {d s nd : Int32} {a1 a3 a5 a6 a7 : Nat → Int32} (hq : q < 321) (hm : m ≤ 321) (h : ft_hit f g n m q r x) (H : post (nI r)) :
    wpX_childWith post (d, s, nd, a1, ft_F f g n m, a3, ft_N (ft_ch n m), a5, a6, a7) (nI q) (nI x) := by
  obtain ⟨h0, h1, h2, h3⟩ := h
  have eq : (nI q).toNatClampNeg = q := nI_clamp (by omega)
  have er : (nI r).toNatClampNeg = r := nI_clamp (by omega)
  unfold wpX_childWith
  dsimp only
  rw [eq]
  refine ⟨vp_in_nI hq (by omega), nm_r (e' := nI r) (congrArg nI h2) ⟨1, br_f (nI_nle h0 (by omega)) ⟨vp_in_nI (by omega) (by omega), br_t ?_ H⟩⟩⟩
  rw [er, ft_Fv h0 h1, h3]
theorem ft_cwOff {post : Int32 → Prop} {f g n m q x : Nat} {d s nd : Int32} {a1 a3 a6 a7 : Nat → Int32} (hq : q < 321) (hm : m ≤ 321) (h : ft_off f g n m q x) (H : post 0) :
    wpX_childWith post (d, s, nd, a1, ft_F f g n m, a3, ft_N (ft_ch n m), ft_N (ft_si n m), a6, a7) (nI q) (nI x) := by
  have eq : (nI q).toNatClampNeg = q := nI_clamp (by omega)
  unfold wpX_childWith
  dsimp only
  rw [eq]
  refine ⟨vp_in_nI hq (by omega), ?_⟩
  rcases h with h | ⟨h0, h1, h2, h3⟩
  · exact nm_r (e' := nI 0) (congrArg nI h) ⟨1, br_t (by decide) H⟩
  · have er : (nI (ft_ch n m q)).toNatClampNeg = ft_ch n m q := nI_clamp (by omega)
    refine nm_r (e' := nI (ft_ch n m q)) rfl ⟨2, br_f (nI_nle h0 (by omega)) ⟨vp_in_nI (by omega) (by omega), br_f ?_ ⟨vp_in_nI (by omega) (by omega), nm_r (e' := nI 0) ?_ (br_t (by decide) H)⟩⟩⟩
    · rw [er, ft_Fv h0 h1]
      exact h2
    · rw [er]
      exact congrArg nI h3
end
section
theorem ft_75 {post : Int32 → St2 → Prop} {J : Int32 → Int32 → Int32 → Int32 → Int32 → (Nat → Int32) → (Nat → Int32) → (Nat → Int32) → (Nat → Int32) → (Nat → Int32) → (Nat → Int32) → (Nat → Int32) → Prop} {w i q : Nat} {t t' : Nat → Nat} {d s m : Int32} {a1 a2 a3 a4 a5 a6 : Nat → Int32}
    (hq : q < 321) (ht : ∀ j, t' j = if j = q then t j + w else t j) (h : J (nI q) (nI (i + 1)) d s m a1 a2 a3 a4 a5 a6 (ft_N t')) :
    wX_sample_75 post J (nI w) (nI i) (nI q) d s m a1 a2 a3 a4 a5 a6 (ft_N t) := by
  unfold wX_sample_75
  rw [nI_clamp (show q < 2 ^ 31 by omega)]
  exact ⟨vp_in_nI hq (by omega), vp_in_nI hq (by omega), nm_r (ft_updA ht) (nm_r (nI_1 i) h)⟩
theorem ft_smp {post : Int32 → St2 → Prop} {f g n d : Nat} {s : Int32} {st o o' : Nat → Nat} (w : Nat) (p M : Nat → Nat) (T : Nat → Nat → Nat) (hn : 2 ≤ n) (hd : d ≤ 8)
    (hM : ∀ k, k ≤ d → p k < M k ∧ M k ≤ 300)
    (hk : ∀ k, k < d → (ft_hit f g n (M k) (p k) (p (k + 1)) (st k) ∧ M (k + 1) = M k) ∨ (ft_mis f g n (M k) (p k) (st k) ∧ p (k + 1) = M k ∧ M (k + 1) = M k + 1))
    (hT : ∀ k, k < d → ∀ i, T (k + 1) i = if i = p (k + 1) then T k i + w else T k i)
    (ho : ∀ i, o' i = if i = p d then o i + w else o i)
    (H : post (s + 1) (nI d, s + 1, nI (M d), ft_N st, ft_F f g n (M d), ft_N (ft_ap n (M d)), ft_N (ft_ch n (M d)), ft_N (ft_si n (M d)), ft_N o', ft_N (T d))) :
    ∃ fu, wX_sample_36 post (nI w) fu (nI (p 0)) 0 (nI d) s (nI (M 0)) (ft_N st) (ft_F f g n (M 0)) (ft_N (ft_ap n (M 0))) (ft_N (ft_ch n (M 0))) (ft_N (ft_si n (M 0))) (ft_N o) (ft_N (T 0)) := by
  refine pk_loop (σ := Unit) (fun k i _ => wX_sample_36 post (nI w) k (nI (p i)) (nI i) (nI d) s (nI (M i)) (ft_N st) (ft_F f g n (M i)) (ft_N (ft_ap n (M i))) (ft_N (ft_ch n (M i))) (ft_N (ft_si n (M i))) (ft_N o) (ft_N (T i))) (fun _ _ => True) d 0 () (by omega) trivial (fun k _ _ => ?_) (fun k i _ hi _ hw => ?_)
  · obtain ⟨m1, m2⟩ := hM d (by omega)
    have v : vp_in (nI (p d)) 321 := vp_in_nI (by omega) (by omega)
    refine pk_le d d (fun _ => ⟨v, v, nm_r (e' := ft_N o') ?_ (nm_e H)⟩) (fun z => absurd z (by omega))
    rw [nI_clamp (show p d < 2 ^ 31 by omega)]
    exact ft_updA ho
  · obtain ⟨m1, m2⟩ := hM i (by omega)
    obtain ⟨m3, m4⟩ := hM (i + 1) (by omega)
    have hw' := hw () trivial
    have v8 : vp_in (nI i) 8 := vp_in_nI (by omega) (by omega)
    have ei : ft_N st (nI i).toNatClampNeg = nI (st i) := congrArg (ft_N st) (nI_clamp (show i < 2 ^ 31 by omega))
    refine pk_le d i (fun z => absurd z (by omega)) (fun _ => ⟨v8, ?_⟩)
    rw [ei]
    rcases hk i hi with ⟨h, e⟩ | ⟨h, e1, e2⟩
    · rw [e] at hw'
      exact ft_cwHit (by omega) (by omega) h (br_f (nI_ne0 h.1 (by omega)) (ft_75 (by omega) (hT i hi) hw'))
    · rw [e2, ← e1] at hw'
      refine ft_cwOff (by omega) (by omega) h.2.2 (br_t rfl ⟨v8, ?_⟩)
      rw [← h.1, ← h.2.1]
      refine ft_add hn (by omega) (by omega) ?_
      rw [← e1]
      exact ft_75 (by omega) (hT i hi) hw'
theorem ft_sample {post : Int32 → St2 → Prop} {f g n d s m m' : Nat} {st o t : Nat → Nat} (w : Nat) (p M : Nat → Nat) (T : Nat → Nat → Nat) (o' t' : Nat → Nat) (hn : 2 ≤ n) (hd : d ≤ 8) (hs : s < 40) (w1 : 1 ≤ w) (w2 : w ≤ 100) (p0 : p 0 = 0) (m0 : M 0 = m) (m1 : M d = m')
    (hM : ∀ k, k ≤ d → p k < M k ∧ M k ≤ 300)
    (hk : ∀ k, k < d → (ft_hit f g n (M k) (p k) (p (k + 1)) (st k) ∧ M (k + 1) = M k) ∨ (ft_mis f g n (M k) (p k) (st k) ∧ p (k + 1) = M k ∧ M (k + 1) = M k + 1))
    (hT0 : ∀ i, T 0 i = if i = 0 then t i + w else t i)
    (hT : ∀ k, k < d → ∀ i, T (k + 1) i = if i = p (k + 1) then T k i + w else T k i)
    (ht : ∀ i, T d i = t' i)
    (ho : ∀ i, o' i = if i = p d then o i + w else o i)
    (H : post (nI (s + 1)) (ft_St f g n d (s + 1) m' st o' t')) :
    wpX_sample post (ft_St f g n d s m st o t) (nI w) := by
  have et : T d = t' := funext ht
  have L := ft_smp (post := post) (s := nI s) (st := st) w p M T hn hd hM hk hT ho (by rw [et, nI_1, m1]; exact H)
  rw [p0, m0] at L
  unfold wpX_sample
  dsimp only
  exact pk_lt w 1 (fun z => absurd z (by omega)) (fun _ => pk_lt 100 w (fun z => absurd z (by omega)) (fun _ => pk_lt s 40 (fun _ => nm_r (ft_updA hT0) L) (fun z => absurd z (by omega))))
theorem ft_sampleLo {post : Int32 → St2 → Prop} {u : St2} {x : Int32} (h : x < 1) (H : post (-1) u) : wpX_sample post u x := by
  obtain ⟨x1, x2, x3, x4, x5, x6, x7, x8, x9, x10⟩ := u
  exact br_t h H
theorem ft_sampleHi {post : Int32 → St2 → Prop} {u : St2} {x : Int32} (h1 : ¬ x < 1) (h : 100 < x) (H : post (-1) u) : wpX_sample post u x := by
  obtain ⟨x1, x2, x3, x4, x5, x6, x7, x8, x9, x10⟩ := u
  exact br_f h1 (br_t h H)
theorem ft_sampleFull {post : Int32 → St2 → Prop} {f g n d s m w : Nat} {st o t : Nat → Nat} (w1 : 1 ≤ w) (w2 : w ≤ 100) (hs : 40 ≤ s) (hs2 : s < 1000) (H : post (-1) (ft_St f g n d s m st o t)) : wpX_sample post (ft_St f g n d s m st o t) (nI w) := by
  unfold wpX_sample
  dsimp only
  exact pk_lt w 1 (fun z => absurd z (by omega)) (fun _ => pk_lt 100 w (fun z => absurd z (by omega)) (fun _ => pk_lt s 40 (fun z => absurd z (by omega)) (fun _ => H)))
theorem ft_isF {post : Int32 → Prop} {x : Nat} (h : x < 8) (H : post 1) : wpX_isFunction post () (nI x) := by
  unfold wpX_isFunction
  exact br_f (nI_pos (by omega)) (pk_lt 7 x (fun z => absurd z (by omega)) (fun _ => H))
theorem ft_call {post : Int32 → St2 → Prop} {f g n d s m x : Nat} {st st' o t : Nat → Nat} (hx : x < 8) (hd : d < 8) (hst : ∀ i, st' i = if i = d then x else st i) (H : post (nI (d + 1)) (ft_St f g n (d + 1) s m st' o t)) : wpX_call post (ft_St f g n d s m st o t) (nI x) := by
  unfold wpX_call
  dsimp only
  refine ft_isF hx (br_f (by decide) (pk_lt d 8 (fun _ => ⟨vp_in_nI (by omega) (by omega), nm_r (e' := ft_N st') ?_ (nm_r (nI_1 d) H)⟩) (fun z => absurd z (by omega))))
  rw [nI_clamp (show d < 2 ^ 31 by omega)]
  exact ft_upd hst
theorem ft_callFull {post : Int32 → St2 → Prop} {f g n s m x : Nat} {st o t : Nat → Nat} (hx : x < 8) (H : post (-1) (ft_St f g n 8 s m st o t)) : wpX_call post (ft_St f g n 8 s m st o t) (nI x) := by
  unfold wpX_call
  dsimp only
  exact ft_isF hx (br_f (by decide) (pk_lt 8 8 (fun z => absurd z (by omega)) (fun _ => H)))
theorem ft_call8 {post : Int32 → St2 → Prop} {u : St2} (H : post (-1) u) : wpX_call post u 8 := by
  obtain ⟨x1, x2, x3, x4, x5, x6, x7, x8, x9, x10⟩ := u
  unfold wpX_call wpX_isFunction
  dsimp only
  exact br_f (by decide) (br_t (by decide) (br_t rfl H))
theorem ft_edge8 {post : Int32 → Prop} {u : St2} {y : Int32} (H : post (-1)) : wpX_edge post u 8 y := by
  obtain ⟨x1, x2, x3, x4, x5, x6, x7, x8, x9, x10⟩ := u
  unfold wpX_edge wpX_isFunction
  dsimp only
  exact br_f (by decide) (br_t (by decide) (br_t rfl H))
theorem ft_excM {post : Int32 → Prop} {u : St2} (H : post (-1)) : wpX_exclusive post u (-1) := by
  obtain ⟨x1, x2, x3, x4, x5, x6, x7, x8, x9, x10⟩ := u
  unfold wpX_exclusive wpX_isFunction
  dsimp only
  exact br_t (by decide) (br_t rfl H)
theorem ft_leave {post : Int32 → St2 → Prop} {f g n e s m : Nat} {st o t : Nat → Nat} (d : Nat) (he : e = d + 1) (hd : d < 8) (H : post (nI (st d)) (ft_St f g n d s m st o t)) : wpX_leave post (ft_St f g n e s m st o t) := by
  subst he
  unfold wpX_leave
  dsimp only
  refine br_f (nI_ne0 (by omega) (by omega)) (nm_r (nI_pred d) ⟨vp_in_nI (by omega) (by omega), ?_⟩)
  rw [nI_clamp (show d < 2 ^ 31 by omega)]
  exact H
theorem ft_leave0 {post : Int32 → St2 → Prop} {f g n s m : Nat} {st o t : Nat → Nat} (H : post (-1) (ft_St f g n 0 s m st o t)) : wpX_leave post (ft_St f g n 0 s m st o t) := br_t rfl H
end
section
/-! nodeOfStack, total, own, hottest -/
def ft_path (f g n m d : Nat) (st p : Nat → Nat) : Prop := d ≤ 8 ∧ m ≤ 300 ∧ p 0 = 0 ∧ ∀ k, k < d → ft_hit f g n m (p k) (p (k + 1)) (st k)
theorem ft_pathLt {f g n m d : Nat} {st p : Nat → Nat} (h : ft_path f g n m d st p) (h0 : 0 < m) : ∀ k, k ≤ d → p k < m := by
  intro k hk
  cases k with
  | zero => rw [h.2.2.1]; exact h0
  | succ k => exact (h.2.2.2 k (by omega)).2.1
theorem ft_nos {post : Int32 → Prop} {f g n m d : Nat} {s nd : Int32} {st p : Nat → Nat} {a3 a5 a6 a7 : Nat → Int32} (h : ft_path f g n m d st p) (h0 : 0 < m) (H : post (nI (p d))) :
    wpX_nodeOfStack post (nI d, s, nd, ft_N st, ft_F f g n m, a3, ft_N (ft_ch n m), a5, a6, a7) := by
  have hl := ft_pathLt h h0
  obtain ⟨hd, hm, p0, hk⟩ := h
  have L : ∃ fu, wX_nodeOfStack_4 post (nI d) s nd (ft_N st) (ft_F f g n m) a3 (ft_N (ft_ch n m)) a5 a6 a7 fu (nI (p 0)) (nI 0) := by
    refine pk_loop (σ := Unit) (fun k i _ => wX_nodeOfStack_4 post (nI d) s nd (ft_N st) (ft_F f g n m) a3 (ft_N (ft_ch n m)) a5 a6 a7 k (nI (p i)) (nI i)) (fun _ _ => True) d 0 () (by omega) trivial (fun k _ _ => ?_) (fun k i _ hi _ hw => ?_)
    · exact pk_le d d (fun _ => H) (fun z => absurd z (by omega))
    · have hw' := hw () trivial
      have hp := hl i (by omega)
      have hp1 := hl (i + 1) (by omega)
      have ei : ft_N st (nI i).toNatClampNeg = nI (st i) := congrArg (ft_N st) (nI_clamp (show i < 2 ^ 31 by omega))
      refine pk_le d i (fun z => absurd z (by omega)) (fun _ => ⟨vp_in_nI (by omega) (by omega), ?_⟩)
      rw [ei]
      exact ft_cwHit (by omega) (by omega) (hk i hi) (br_f (nI_ne0 (hk i hi).1 (by omega)) (nm_r (nI_1 i) hw'))
  rw [p0] at L
  exact L
/-- the path leaves the tree at the root -/
theorem ft_nosOff {post : Int32 → Prop} {f g n m d : Nat} {s nd : Int32} {st : Nat → Nat} {a3 a6 a7 : Nat → Int32} (hd : 0 < d) (hd8 : d ≤ 8) (hm : m ≤ 300) (h : ft_off f g n m 0 (st 0)) (H : post (-1)) :
    wpX_nodeOfStack post (nI d, s, nd, ft_N st, ft_F f g n m, a3, ft_N (ft_ch n m), ft_N (ft_si n m), a6, a7) := by
  unfold wpX_nodeOfStack
  dsimp only
  have ei : ft_N st (nI 0).toNatClampNeg = nI (st 0) := congrArg (ft_N st) (nI_clamp (by omega))
  refine ⟨1, pk_le d 0 (fun z => absurd z (by omega)) (fun _ => ⟨pk_in 0 8 (by omega), ?_⟩)⟩
  exact ei ▸ ft_cwOff (q := 0) (by omega) (by omega) h (br_t rfl H)
theorem ft_total {post : Int32 → Prop} {f g n d s m : Nat} {st o t : Nat → Nat} (p : Nat → Nat) (h : ft_path f g n m d st p) (h0 : 0 < m) (H : post (nI (t (p d)))) : wpX_total post (ft_St f g n d s m st o t) := by
  have hl := ft_pathLt h h0 d (Nat.le_refl d)
  have hm := h.2.1
  unfold wpX_total
  dsimp only
  refine ft_nos h h0 (br_t (nI_pos' (by omega)) ⟨vp_in_nI (by omega) (by omega), ?_⟩)
  rw [nI_clamp (show p d < 2 ^ 31 by omega)]
  exact H
theorem ft_own {post : Int32 → Prop} {f g n d s m : Nat} {st o t : Nat → Nat} (p : Nat → Nat) (h : ft_path f g n m d st p) (h0 : 0 < m) (H : post (nI (o (p d)))) : wpX_own post (ft_St f g n d s m st o t) := by
  have hl := ft_pathLt h h0 d (Nat.le_refl d)
  have hm := h.2.1
  unfold wpX_own
  dsimp only
  refine ft_nos h h0 (br_t (nI_pos' (by omega)) ⟨vp_in_nI (by omega) (by omega), ?_⟩)
  rw [nI_clamp (show p d < 2 ^ 31 by omega)]
  exact H
theorem ft_totalOff {post : Int32 → Prop} {f g n d s m : Nat} {st o t : Nat → Nat} (hd : 0 < d) (hd8 : d ≤ 8) (hm : m ≤ 300) (h : ft_off f g n m 0 (st 0)) (H : post 0) : wpX_total post (ft_St f g n d s m st o t) := by
  unfold wpX_total
  dsimp only
  exact ft_nosOff hd hd8 hm h (br_f (by decide) H)
theorem ft_hotOff {post : Int32 → Prop} {f g n d s m : Nat} {st o t : Nat → Nat} (hd : 0 < d) (hd8 : d ≤ 8) (hm : m ≤ 300) (h : ft_off f g n m 0 (st 0)) (H : post (-1)) : wpX_hottest post (ft_St f g n d s m st o t) := by
  unfold wpX_hottest
  dsimp only
  exact ft_nosOff hd hd8 hm h (br_t (by decide) H)
section
variable {post : Int32 → Prop} {f g n m : Nat} {d s nd : Int32} {t : Nat → Nat} {a1 a3 a4 a6 a7 : Nat → Int32} {J : Int32 → Int32 → Prop}
theorem ft_h94 {a2 : Nat → Int32} {c : Nat} (hc : c < 321) (h : J (nI c) (nI (ft_si n m c))) : wX_hottest_94 post J (nI c) d s nd a1 a2 a3 a4 (ft_N (ft_si n m)) a6 a7 := by
  unfold wX_hottest_94
  rw [nI_clamp (show c < 2 ^ 31 by omega)]
  exact ⟨vp_in_nI hc (by omega), nm_r rfl h⟩
theorem ft_hEnd0 {a2 a5 : Nat → Int32} {k : Nat} (H : post (-1)) : wX_hottest_29 post d s nd a1 a2 a3 a4 a5 a6 a7 (k + 1) 0 (nI 0) := br_t (by decide) (br_t rfl H)
theorem ft_hEnd {a5 : Nat → Int32} {k c : Nat} (c0 : 0 < c) (c1 : c < m) (hm : m ≤ 300) (H : post (nI (ft_fn f g n c))) : wX_hottest_29 post d s nd a1 (ft_F f g n m) a3 a4 a5 a6 a7 (k + 1) (nI c) (nI 0) := by
  refine br_t (by decide) (br_f (nI_ne0 c0 (by omega)) ⟨vp_in_nI (by omega) (by omega), ?_⟩)
  rw [nI_clamp (show c < 2 ^ 31 by omega), ft_Fv c0 c1]
  exact H
theorem ft_hFirst {a2 : Nat → Int32} {k c : Nat} (c0 : 0 < c) (c1 : c < 321) (h : wX_hottest_29 post d s nd a1 a2 a3 a4 (ft_N (ft_si n m)) a6 a7 k (nI c) (nI (ft_si n m c))) : wX_hottest_29 post d s nd a1 a2 a3 a4 (ft_N (ft_si n m)) a6 a7 (k + 1) 0 (nI c) := by
  have vc : vp_in (nI c) 321 := vp_in_nI c1 (by omega)
  have v0 : vp_in (0 : Int32) 321 := pk_in 0 321 (by omega)
  have L := ft_h94 (post := post) (d := d) (s := s) (nd := nd) (a1 := a1) (a2 := a2) (a3 := a3) (a4 := a4) (a6 := a6) (a7 := a7) c1 h
  exact br_f (nI_nle c0 (by omega)) ⟨vc, v0, br_c (fun _ => br_t rfl L) (fun _ => ⟨vc, v0, br_c (fun _ => ⟨vc, v0, br_c (fun _ => br_t rfl L) (fun _ => br_t rfl L)⟩) (fun _ => br_t rfl L)⟩)⟩
theorem ft_hNext {k c e : Nat} (hf : f < 8) (hg : g < 8) (hm : m ≤ 300) (ht : ∀ i, t i < 2 ^ 31) (c0 : 0 < c) (c1 : c < m) (e0 : 0 < e) (e1 : e < m)
    (h1 : (t c < t e ∨ (t e = t c ∧ ft_fn f g n e < ft_fn f g n c)) → wX_hottest_29 post d s nd a1 (ft_F f g n m) a3 a4 (ft_N (ft_si n m)) a6 (ft_N t) k (nI e) (nI (ft_si n m e)))
    (h0 : ¬ (t c < t e ∨ (t e = t c ∧ ft_fn f g n e < ft_fn f g n c)) → wX_hottest_29 post d s nd a1 (ft_F f g n m) a3 a4 (ft_N (ft_si n m)) a6 (ft_N t) k (nI c) (nI (ft_si n m e))) :
    wX_hottest_29 post d s nd a1 (ft_F f g n m) a3 a4 (ft_N (ft_si n m)) a6 (ft_N t) (k + 1) (nI c) (nI e) := by
  have vc : vp_in (nI c) 321 := vp_in_nI (by omega) (by omega)
  have ve : vp_in (nI e) 321 := vp_in_nI (by omega) (by omega)
  have ec : (nI c).toNatClampNeg = c := nI_clamp (by omega)
  have ee : (nI e).toNatClampNeg = e := nI_clamp (by omega)
  have tc := ht c
  have te := ht e
  have bf : ∀ i, ft_fn f g n i < 8 := by
    intro i
    unfold ft_fn
    split <;> omega
  have bc := bf c
  have be := bf e
  have nc : ¬ nI c = 0 := nI_ne0 c0 (by omega)
  have xtc : ft_N t (nI c).toNatClampNeg = nI (t c) := congrArg (ft_N t) ec
  have xte : ft_N t (nI e).toNatClampNeg = nI (t e) := congrArg (ft_N t) ee
  have xfc : ft_F f g n m (nI c).toNatClampNeg = nI (ft_fn f g n c) := by rw [ec, ft_Fv c0 c1]
  have xfe : ft_F f g n m (nI e).toNatClampNeg = nI (ft_fn f g n e) := by rw [ee, ft_Fv e0 e1]
  have L1 : (t c < t e ∨ (t e = t c ∧ ft_fn f g n e < ft_fn f g n c)) → wX_hottest_78 post (wX_hottest_29 post d s nd a1 (ft_F f g n m) a3 a4 (ft_N (ft_si n m)) a6 (ft_N t) k) (nI c) (nI e) d s nd a1 (ft_F f g n m) a3 a4 (ft_N (ft_si n m)) a6 (ft_N t) :=
    fun z => br_f nc (br_f (by decide) (ft_h94 (by omega) (h1 z)))
  have L0 : ¬ (t c < t e ∨ (t e = t c ∧ ft_fn f g n e < ft_fn f g n c)) → wX_hottest_82 post (wX_hottest_29 post d s nd a1 (ft_F f g n m) a3 a4 (ft_N (ft_si n m)) a6 (ft_N t) k) (nI c) (nI e) d s nd a1 (ft_F f g n m) a3 a4 (ft_N (ft_si n m)) a6 (ft_N t) :=
    fun z => br_f nc (br_t rfl ⟨ve, nm_r (congrArg (ft_N (ft_si n m)) ee) (h0 z)⟩)
  exact br_f (nI_nle e0 (by omega)) ⟨ve, vc, pk_lt (t c) (t e) (fun z => L1 (Or.inl z)) (fun z => ⟨ve, vc, pk_eq (t e) (t c) (fun y => ⟨ve, vc, pk_le (ft_fn f g n c) (ft_fn f g n e) (fun x => L0 (by omega)) (fun x => L1 (by omega)) xfc xfe⟩) (fun y => L0 (by omega)) xte xtc⟩) xtc xte⟩
end
theorem ft_hot {post : Int32 → Prop} {f g n d s m : Nat} {st o t : Nat → Nat} (p : Nat → Nat) (h : ft_path f g n m d st p) (h0 : 0 < m) (hd : d < 8)
    (H : ∃ fu, wX_hottest_29 post (nI d) (nI s) (nI m) (ft_N st) (ft_F f g n m) (ft_N (ft_ap n m)) (ft_N (ft_ch n m)) (ft_N (ft_si n m)) (ft_N o) (ft_N t) fu 0 (nI (ft_ch n m (p d)))) : wpX_hottest post (ft_St f g n d s m st o t) := by
  have hl := ft_pathLt h h0 d (Nat.le_refl d)
  have hm := h.2.1
  unfold wpX_hottest
  dsimp only
  refine ft_nos h h0 (br_f (nI_pos (by omega)) (pk_eq d 8 (fun z => absurd z (by omega)) (fun _ => ⟨vp_in_nI (by omega) (by omega), ?_⟩)))
  rw [nI_clamp (show p d < 2 ^ 31 by omega)]
  exact nm_r rfl H
end
section
/-! standsAbove -/
theorem ft_p0 {x y : Nat} (h : y = x) : nI x + 0 = nI y := by
  rw [h]
  exact nI_add x 0
theorem ft_pv {x y v : Nat} (h : y = x + v) : nI x + nI v = nI y := by
  rw [h]
  exact nI_add x v
theorem ft_apv {n m i : Nat} (h : i < m) : ft_ap n m i = ft_pa n i := if_pos h
section
variable {post : Int32 → Prop} {f g n m : Nat} {d s nd : Int32} {a1 a4 a5 a6 a7 : Nat → Int32}
theorem ft_sa0 {x2 x3 x5 : Int32} {a2 a3 : Nat → Int32} {k : Nat} (H : post 0) : wX_standsAbove_11 post x2 x3 d s nd a1 a2 a3 a4 a5 a6 a7 (k + 1) (nI 0) x5 := br_c (fun _ => H) (fun _ => br_t (by decide) H)
theorem ft_saIn {i q : Nat} {x2 x3 : Int32} (h1 : i < m) (hm : m ≤ 300) (e : ft_pa n i = q)
    (H : ∃ fu, wX_standsAbove_11 post x2 x3 d s nd a1 (ft_F f g n m) (ft_N (ft_ap n m)) a4 a5 a6 a7 fu (nI q) 0) : wpX_standsAbove post (d, s, nd, a1, ft_F f g n m, ft_N (ft_ap n m), a4, a5, a6, a7) (nI i) x2 x3 := by
  unfold wpX_standsAbove
  dsimp only
  rw [nI_clamp (show i < 2 ^ 31 by omega)]
  exact ⟨vp_in_nI (by omega) (by omega), nm_r (e' := nI q) (congrArg nI ((ft_apv h1).trans e)) H⟩
/-- nothing above -/
theorem ft_saRoot {i : Nat} {x2 x3 : Int32} (h1 : i < m) (hm : m ≤ 300) (e : ft_pa n i = 0) (H : post 0) : wpX_standsAbove post (d, s, nd, a1, ft_F f g n m, ft_N (ft_ap n m), a4, a5, a6, a7) (nI i) x2 x3 :=
  ft_saIn h1 hm e ⟨1, ft_sa0 H⟩
/-- the node above has the function (no caller asked) -/
theorem ft_saHit {i q x : Nat} (h1 : i < m) (hm : m ≤ 300) (e : ft_pa n i = q) (q0 : 0 < q) (q1 : q < m) (hx : ft_fn f g n q = x) (H : post 1) : wpX_standsAbove post (d, s, nd, a1, ft_F f g n m, ft_N (ft_ap n m), a4, a5, a6, a7) (nI i) (-1) (nI x) := by
  refine ft_saIn h1 hm e ⟨1, br_f (by decide) (br_f (nI_nle q0 (by omega)) ⟨vp_in_nI (by omega) (by omega), br_t ?_ (br_t (by decide) H)⟩)⟩
  rw [nI_clamp (show q < 2 ^ 31 by omega), ft_Fv q0 q1, hx]
/-- the node above has the function and the caller above it -/
theorem ft_saHit2 {i q r x y : Nat} (h1 : i < m) (hm : m ≤ 300) (e : ft_pa n i = q) (q0 : 0 < q) (q1 : q < m) (hx : ft_fn f g n q = x) (er : ft_pa n q = r) (r0 : 0 < r) (r1 : r < m) (hy : ft_fn f g n r = y) (y8 : y < 8) (H : post 1) : wpX_standsAbove post (d, s, nd, a1, ft_F f g n m, ft_N (ft_ap n m), a4, a5, a6, a7) (nI i) (nI y) (nI x) := by
  have eq : (nI q).toNatClampNeg = q := nI_clamp (by omega)
  have e3 : ft_N (ft_ap n m) (nI q).toNatClampNeg = nI r := by
    rw [eq]
    exact congrArg nI ((ft_apv q1).trans er)
  have vq : vp_in (nI q) 321 := vp_in_nI (by omega) (by omega)
  refine ft_saIn h1 hm e ⟨1, br_f (by decide) (br_f (nI_nle q0 (by omega)) ⟨vq, br_t ?_ (br_f (nI_pos (by omega)) ⟨vq, ?_, br_t ?_ H⟩)⟩)⟩
  · rw [eq, ft_Fv q0 q1, hx]
  · rw [e3]
    exact vp_in_nI (by omega) (by omega)
  · rw [e3, nI_clamp (show r < 2 ^ 31 by omega), ft_Fv r0 r1, hy]
/-- the node above has the function, but stands right below the root -/
theorem ft_saOne {i q x y : Nat} (h1 : i < m) (hm : m ≤ 300) (e : ft_pa n i = q) (q0 : 0 < q) (q1 : q < m) (hx : ft_fn f g n q = x) (er : ft_pa n q = 0) (y8 : y < 8) (H : post 0) : wpX_standsAbove post (d, s, nd, a1, ft_F f g n m, ft_N (ft_ap n m), a4, a5, a6, a7) (nI i) (nI y) (nI x) := by
  have eq : (nI q).toNatClampNeg = q := nI_clamp (by omega)
  have e3 : ft_N (ft_ap n m) (nI q).toNatClampNeg = nI 0 := by
    rw [eq]
    exact congrArg nI ((ft_apv q1).trans er)
  have vq : vp_in (nI q) 321 := vp_in_nI (by omega) (by omega)
  refine ft_saIn h1 hm e ⟨2, br_f (by decide) (br_f (nI_nle q0 (by omega)) ⟨vq, br_t ?_ (br_f (nI_pos (by omega)) ⟨vq, ?_, br_f ?_ ⟨vq, nm_r e3 (nm_e (ft_sa0 H))⟩⟩)⟩)⟩
  · rw [eq, ft_Fv q0 q1, hx]
  · rw [e3]
    exact vp_in_nI (by omega) (by omega)
  · rw [e3, nI_clamp (by omega), ft_F0]
    exact ft_m1 (by omega)
/-- up the chain of f, which is not asked for -/
theorem ft_saUp {x2 : Int32} {x : Nat} (hm : m ≤ 300) (hx : ¬ nI f = nI x) (H : post 0) : ∀ j, j ≤ n → j < m → ∀ x5 : Int32, wX_standsAbove_11 post x2 (nI x) d s nd a1 (ft_F f g n m) (ft_N (ft_ap n m)) a4 a5 a6 a7 (j + 1) (nI j) x5 := by
  intro j
  induction j with
  | zero => exact fun _ _ x5 => ft_sa0 H
  | succ j ih =>
    intro h1 h2 x5
    have ej : (nI (j + 1)).toNatClampNeg = j + 1 := nI_clamp (by omega)
    have vj : vp_in (nI (j + 1)) 321 := vp_in_nI (by omega) (by omega)
    refine br_c (fun _ => H) (fun _ => br_f (nI_nle (by omega) (by omega)) ⟨vj, br_f ?_ ⟨vj, nm_r (e' := nI j) ?_ (nm_e (ih (by omega) (by omega) _))⟩⟩)
    · rw [ej, ft_Fv (by omega) h2, ft_fnL h1]
      exact hx
    · rw [ej]
      refine congrArg nI ((ft_apv h2).trans ?_)
      unfold ft_pa
      rw [if_pos h1]
      omega
/-! the sums over all nodes -/
theorem ft_inc {t Sg : Nat → Nat} {x : Nat} (hx : x < 8) (h0 : 1 ≤ m) (hm : m ≤ 300) (hS : Sg 1 = 0)
    (hk : ∀ i, 1 ≤ i → i < m → (¬ nI (ft_fn f g n i) = nI x ∧ Sg (i + 1) = Sg i) ∨ (ft_fn f g n i = x ∧ ((∀ ψ : Int32 → Prop, ψ 1 → wpX_standsAbove ψ (d, s, nI m, a1, ft_F f g n m, ft_N (ft_ap n m), a4, a5, a6, ft_N t) (nI i) (-1) (nI x)) ∧ Sg (i + 1) = Sg i ∨ (∀ ψ : Int32 → Prop, ψ 0 → wpX_standsAbove ψ (d, s, nI m, a1, ft_F f g n m, ft_N (ft_ap n m), a4, a5, a6, ft_N t) (nI i) (-1) (nI x)) ∧ Sg (i + 1) = Sg i + t i)))
    (H : post (nI (Sg m))) : wpX_inclusive post (d, s, nI m, a1, ft_F f g n m, ft_N (ft_ap n m), a4, a5, a6, ft_N t) (nI x) := by
  have L : ∃ fu, wX_inclusive_13 post (nI x) d s (nI m) a1 (ft_F f g n m) (ft_N (ft_ap n m)) a4 a5 a6 (ft_N t) fu (nI (Sg 1)) (nI 1) := by
    refine pk_loop (σ := Unit) (fun k i _ => wX_inclusive_13 post (nI x) d s (nI m) a1 (ft_F f g n m) (ft_N (ft_ap n m)) a4 a5 a6 (ft_N t) k (nI (Sg i)) (nI i)) (fun i _ => 1 ≤ i) m 1 () h0 (Nat.le_refl 1) (fun k _ _ => ?_) (fun k i _ hi h1 hw => ?_)
    · exact pk_le m m (fun _ => H) (fun z => absurd z (by omega))
    · have hw' := hw () (Nat.le_succ_of_le h1)
      have ei : (nI i).toNatClampNeg = i := nI_clamp (by omega)
      have vi : vp_in (nI i) 321 := vp_in_nI (by omega) (by omega)
      have eF : ft_F f g n m (nI i).toNatClampNeg = nI (ft_fn f g n i) := by rw [ei, ft_Fv h1 hi]
      refine pk_le m i (fun z => absurd z (by omega)) (fun _ => ⟨vi, ?_⟩)
      rcases hk i h1 hi with ⟨e, q⟩ | ⟨e, ⟨w, q⟩ | ⟨w, q⟩⟩
      · exact br_f (by rw [eF]; exact e) (nm_r (ft_p0 q) (nm_r (nI_1 i) hw'))
      · exact br_t (by rw [eF, e]) (w _ (br_f (by decide) (nm_r (ft_p0 q) (nm_r (nI_1 i) hw'))))
      · exact br_t (by rw [eF, e]) (w _ (br_t rfl ⟨vi, nm_r (by rw [ei]; exact ft_pv q) (nm_r (nI_1 i) hw')⟩))
  rw [hS] at L
  unfold wpX_inclusive
  dsimp only
  exact ft_isF hx (br_f (by decide) L)
theorem ft_exc {o Sg : Nat → Nat} {x : Nat} {a3 : Nat → Int32} (hx : x < 8) (h0 : 1 ≤ m) (hm : m ≤ 300) (hS : Sg 1 = 0)
    (hk : ∀ i, 1 ≤ i → i < m → (¬ nI (ft_fn f g n i) = nI x ∧ Sg (i + 1) = Sg i) ∨ (ft_fn f g n i = x ∧ Sg (i + 1) = Sg i + o i))
    (H : post (nI (Sg m))) : wpX_exclusive post (d, s, nI m, a1, ft_F f g n m, a3, a4, a5, ft_N o, a7) (nI x) := by
  have L : ∃ fu, wX_exclusive_13 post (nI x) d s (nI m) a1 (ft_F f g n m) a3 a4 a5 (ft_N o) a7 fu (nI (Sg 1)) (nI 1) := by
    refine pk_loop (σ := Unit) (fun k i _ => wX_exclusive_13 post (nI x) d s (nI m) a1 (ft_F f g n m) a3 a4 a5 (ft_N o) a7 k (nI (Sg i)) (nI i)) (fun i _ => 1 ≤ i) m 1 () h0 (Nat.le_refl 1) (fun k _ _ => ?_) (fun k i _ hi h1 hw => ?_)
    · exact pk_le m m (fun _ => H) (fun z => absurd z (by omega))
    · have hw' := hw () (Nat.le_succ_of_le h1)
      have ei : (nI i).toNatClampNeg = i := nI_clamp (by omega)
      have vi : vp_in (nI i) 321 := vp_in_nI (by omega) (by omega)
      have eF : ft_F f g n m (nI i).toNatClampNeg = nI (ft_fn f g n i) := by rw [ei, ft_Fv h1 hi]
      refine pk_le m i (fun z => absurd z (by omega)) (fun _ => ⟨vi, ?_⟩)
      rcases hk i h1 hi with ⟨e, q⟩ | ⟨e, q⟩
      · exact br_f (by rw [eF]; exact e) (nm_r (ft_p0 q) (nm_r (nI_1 i) hw'))
      · exact br_t (by rw [eF, e]) ⟨vi, nm_r (by rw [ei]; exact ft_pv q) (nm_r (nI_1 i) hw')⟩
  rw [hS] at L
  unfold wpX_exclusive
  dsimp only
  exact ft_isF hx (br_f (by decide) L)
theorem ft_edge {t Sg : Nat → Nat} {x y : Nat} (hx : x < 8) (hy : y < 8) (h0 : 1 ≤ m) (hm : m ≤ 300) (hS : Sg 1 = 0)
    (hk : ∀ i, 1 ≤ i → i < m → (¬ nI (ft_fn f g n i) = nI y ∧ Sg (i + 1) = Sg i) ∨ (ft_fn f g n i = y ∧ ¬ ft_F f g n m (ft_pa n i) = nI x ∧ Sg (i + 1) = Sg i) ∨ (ft_fn f g n i = y ∧ ft_F f g n m (ft_pa n i) = nI x ∧ ((∀ ψ : Int32 → Prop, ψ 1 → wpX_standsAbove ψ (d, s, nI m, a1, ft_F f g n m, ft_N (ft_ap n m), a4, a5, a6, ft_N t) (nI i) (nI x) (nI y)) ∧ Sg (i + 1) = Sg i ∨ (∀ ψ : Int32 → Prop, ψ 0 → wpX_standsAbove ψ (d, s, nI m, a1, ft_F f g n m, ft_N (ft_ap n m), a4, a5, a6, ft_N t) (nI i) (nI x) (nI y)) ∧ Sg (i + 1) = Sg i + t i)))
    (H : post (nI (Sg m))) : wpX_edge post (d, s, nI m, a1, ft_F f g n m, ft_N (ft_ap n m), a4, a5, a6, ft_N t) (nI x) (nI y) := by
  have L : ∃ fu, wX_edge_21 post (nI x) (nI y) d s (nI m) a1 (ft_F f g n m) (ft_N (ft_ap n m)) a4 a5 a6 (ft_N t) fu (nI (Sg 1)) (nI 1) := by
    refine pk_loop (σ := Unit) (fun k i _ => wX_edge_21 post (nI x) (nI y) d s (nI m) a1 (ft_F f g n m) (ft_N (ft_ap n m)) a4 a5 a6 (ft_N t) k (nI (Sg i)) (nI i)) (fun i _ => 1 ≤ i) m 1 () h0 (Nat.le_refl 1) (fun k _ _ => ?_) (fun k i _ hi h1 hw => ?_)
    · exact pk_le m m (fun _ => H) (fun z => absurd z (by omega))
    · have hw' := hw () (Nat.le_succ_of_le h1)
      have hp := ft_paLt (n := n) h1
      have ei : (nI i).toNatClampNeg = i := nI_clamp (by omega)
      have vi : vp_in (nI i) 321 := vp_in_nI (by omega) (by omega)
      have eF : ft_F f g n m (nI i).toNatClampNeg = nI (ft_fn f g n i) := by rw [ei, ft_Fv h1 hi]
      have eA : ft_N (ft_ap n m) (nI i).toNatClampNeg = nI (ft_pa n i) := by
        rw [ei]
        exact congrArg nI (ft_apv hi)
      have eP : (ft_N (ft_ap n m) (nI i).toNatClampNeg).toNatClampNeg = ft_pa n i := by
        rw [eA]
        exact nI_clamp (by omega)
      have va : vp_in (ft_N (ft_ap n m) (nI i).toNatClampNeg) 321 := by
        rw [eA]
        exact vp_in_nI (by omega) (by omega)
      refine pk_le m i (fun z => absurd z (by omega)) (fun _ => ⟨vi, ?_⟩)
      rcases hk i h1 hi with ⟨e, q⟩ | ⟨e, e2, q⟩ | ⟨e, e2, ⟨w, q⟩ | ⟨w, q⟩⟩
      · exact br_f (by rw [eF]; exact e) (br_t rfl (nm_r (ft_p0 q) (nm_r (nI_1 i) hw')))
      · exact br_t (by rw [eF, e]) ⟨vi, va, br_f (by rw [eP]; exact e2) (br_t rfl (nm_r (ft_p0 q) (nm_r (nI_1 i) hw')))⟩
      · exact br_t (by rw [eF, e]) ⟨vi, va, br_t (by rw [eP]; exact e2) (br_f (by decide) (w _ (br_f (by decide) (nm_r (ft_p0 q) (nm_r (nI_1 i) hw')))))⟩
      · exact br_t (by rw [eF, e]) ⟨vi, va, br_t (by rw [eP]; exact e2) (br_f (by decide) (w _ (br_t rfl ⟨vi, nm_r (by rw [ei]; exact ft_pv q) (nm_r (nI_1 i) hw')⟩)))⟩
  rw [hS] at L
  unfold wpX_edge
  dsimp only
  exact ft_isF hx (br_f (by decide) (ft_isF hy (br_f (by decide) L)))
theorem ft_paths {t Sg : Nat → Nat} {x : Nat} {a2 a3 : Nat → Int32} (x1 : 1 ≤ x) (x2 : x < 1000) (ht : ∀ i, t i < 2 ^ 31) (h0 : 1 ≤ m) (hm : m ≤ 300) (hS : Sg 1 = 0)
    (hk : ∀ i, 1 ≤ i → i < m → (t i < x ∧ Sg (i + 1) = Sg i) ∨ (x ≤ t i ∧ Sg (i + 1) = Sg i + 1))
    (H : post (nI (Sg m))) : wpX_paths post (d, s, nI m, a1, a2, a3, a4, a5, a6, ft_N t) (nI x) := by
  have L : ∃ fu, wX_paths_16 post (nI x) d s (nI m) a1 a2 a3 a4 a5 a6 (ft_N t) fu (nI (Sg 1)) (nI 1) := by
    refine pk_loop (σ := Unit) (fun k i _ => wX_paths_16 post (nI x) d s (nI m) a1 a2 a3 a4 a5 a6 (ft_N t) k (nI (Sg i)) (nI i)) (fun i _ => 1 ≤ i) m 1 () h0 (Nat.le_refl 1) (fun k _ _ => ?_) (fun k i _ hi h1 hw => ?_)
    · exact pk_le m m (fun _ => H) (fun z => absurd z (by omega))
    · have hw' := hw () (Nat.le_succ_of_le h1)
      have ei : (nI i).toNatClampNeg = i := nI_clamp (by omega)
      have vi : vp_in (nI i) 321 := vp_in_nI (by omega) (by omega)
      have eT : ft_N t (nI i).toNatClampNeg = nI (t i) := congrArg (ft_N t) ei
      have bt := ht i
      refine pk_le m i (fun z => absurd z (by omega)) (fun _ => ⟨vi, pk_lt (t i) x (fun z => ?_) (fun z => ?_) eT⟩)
      · rcases hk i h1 hi with ⟨e, q⟩ | ⟨e, q⟩
        · exact nm_r (ft_p0 q) (nm_r (nI_1 i) hw')
        · exact absurd z (by omega)
      · rcases hk i h1 hi with ⟨e, q⟩ | ⟨e, q⟩
        · exact absurd z (by omega)
        · exact nm_r (ft_pv (v := 1) q) (nm_r (nI_1 i) hw')
  rw [hS] at L
  unfold wpX_paths
  dsimp only
  exact pk_le 1 x (fun _ => L) (fun z => absurd z (by omega))
theorem ft_dep (hn : 2 ≤ n) (hm : m ≤ 300) {a2 : Nat → Int32} : ∀ q c j, ft_dp n j = q → j < m → q + c ≤ 8 → post (nI (q + c)) → wX_depthOf_7 post d s nd a1 a2 (ft_N (ft_ap n m)) a4 a5 a6 a7 (q + 1) (nI c) (nI j) (nI c) := by
  intro q
  induction q with
  | zero =>
    intro c j e hj hc H
    have j0 : j = 0 := by
      unfold ft_dp at e
      (repeat' split at e) <;> omega
    rw [Nat.zero_add] at H
    rw [j0]
    exact br_c (fun _ => H) (fun _ => br_t (by decide) H)
  | succ q ih =>
    intro c j e hj hc H
    have j0 : 0 < j := by
      rcases Nat.eq_zero_or_pos j with z | z
      · rw [z] at e
        unfold ft_dp at e
        rw [if_pos (by omega)] at e
        omega
      · exact z
    have ep : ft_dp n (ft_pa n j) = q := by
      rcases ft_cls (n := n) j0 with ⟨h, z⟩ | ⟨h, z⟩ | ⟨h, z⟩ | ⟨h, z⟩ <;> rw [z] <;> unfold ft_dp at e ⊢ <;> (repeat' split at e) <;> (repeat' split) <;> omega
    have hp := ft_paLt (n := n) j0
    have ej : (nI j).toNatClampNeg = j := nI_clamp (by omega)
    refine pk_le 8 c (fun z => absurd z (by omega)) (fun _ => br_f (nI_nle j0 (by omega)) (nm_r (nI_1 c) ⟨vp_in_nI (by omega) (by omega), nm_r (e' := nI (ft_pa n j)) ?_ (nm_r (nI_1 c) (ih (c + 1) (ft_pa n j) ep (by omega) (by omega) ?_))⟩))
    · rw [ej]
      exact congrArg nI (ft_apv hj)
    · rw [show q + (c + 1) = q + 1 + c by omega]
      exact H
theorem ft_depth {a2 : Nat → Int32} {j : Nat} (hn : 2 ≤ n) (hm : m ≤ 300) (hj : j < m) (hb : ft_dp n j ≤ 8) (H : post (nI (ft_dp n j))) : wpX_depthOf post (d, s, nd, a1, a2, ft_N (ft_ap n m), a4, a5, a6, a7) (nI j) :=
  ⟨ft_dp n j + 1, ft_dep hn hm (ft_dp n j) 0 j rfl hj hb H⟩
theorem ft_46 {J : Int32 → Int32 → Prop} {a2 a3 : Nat → Int32} {x2 : Int32} {v i z : Nat} (hv : v ≤ 8) (hz : z ≤ 8) (h : J (nI (max v z)) (nI (i + 1))) : wX_deepest_46 post J x2 (nI v) (nI i) (nI z) d s nd a1 a2 a3 a4 a5 a6 a7 := by
  unfold wX_deepest_46
  refine pk_le z v (fun q => nm_r (nI_1 i) ?_) (fun q => nm_r (nI_1 i) ?_)
  · rw [show max v z = v by omega] at h
    exact h
  · rw [show max v z = z by omega] at h
    exact h
theorem ft_deep {t : Nat → Nat} {x K : Nat} {a2 : Nat → Int32} (hn : 2 ≤ n) (x1 : 1 ≤ x) (x2 : x < 1000) (ht : ∀ i, t i < 2 ^ 31) (h0 : 1 ≤ m) (hm : m ≤ 300) (hK : K ≤ 8) (hb : ∀ i, 1 ≤ i → i < m → x ≤ t i → ft_dp n i ≤ K) (ha : K = 0 ∨ ∃ i, 1 ≤ i ∧ i < m ∧ x ≤ t i ∧ ft_dp n i = K)
    (H : post (nI K)) : wpX_deepest post (d, s, nI m, a1, a2, ft_N (ft_ap n m), a4, a5, a6, ft_N t) (nI x) := by
  have L : ∃ fu, wX_deepest_16 post (nI x) d s (nI m) a1 a2 (ft_N (ft_ap n m)) a4 a5 a6 (ft_N t) fu (nI 0) (nI 1) := by
    refine pk_loop (fun k i (v : Nat) => wX_deepest_16 post (nI x) d s (nI m) a1 a2 (ft_N (ft_ap n m)) a4 a5 a6 (ft_N t) k (nI v) (nI i)) (fun i v => 1 ≤ i ∧ v ≤ K ∧ ∀ j, 1 ≤ j → j < i → x ≤ t j → ft_dp n j ≤ v) m 1 0 h0 ⟨Nat.le_refl 1, by omega, fun j h1 h2 => absurd h2 (by omega)⟩ (fun k v hv => ?_) (fun k i v hi hv hw => ?_)
    · obtain ⟨_, h2, h3⟩ := hv
      have e : v = K := by
        rcases ha with z | ⟨i, z1, z2, z3, z4⟩
        · omega
        · have := h3 i z1 z2 z3
          omega
      rw [e]
      exact pk_le m m (fun _ => H) (fun z => absurd z (by omega))
    · obtain ⟨h1, h2, h3⟩ := hv
      have ei : (nI i).toNatClampNeg = i := nI_clamp (by omega)
      have vi : vp_in (nI i) 321 := vp_in_nI (by omega) (by omega)
      have eT : ft_N t (nI i).toNatClampNeg = nI (t i) := congrArg (ft_N t) ei
      have bt := ht i
      refine pk_le m i (fun z => absurd z (by omega)) (fun _ => ⟨vi, pk_lt (t i) x (fun z => ?_) (fun z => ?_) eT⟩)
      · refine ft_46 (z := 0) (by omega) (by omega) (hw (max v 0) ⟨by omega, by omega, fun j j1 j2 j3 => ?_⟩)
        rcases Nat.lt_or_ge j i with y | y
        · have := h3 j j1 y j3
          omega
        · rw [show j = i by omega] at j3
          omega
      · have b := hb i h1 hi z
        refine ft_depth hn hm hi (by omega) (ft_46 (by omega) (by omega) (hw (max v (ft_dp n i)) ⟨by omega, by omega, fun j j1 j2 j3 => ?_⟩))
        rcases Nat.lt_or_ge j i with y | y
        · have := h3 j j1 y j3
          omega
        · rw [show j = i by omega]
          omega
  unfold wpX_deepest
  dsimp only
  exact pk_le 1 x (fun _ => L) (fun z => absurd z (by omega))
end
end
section
/-! the states of the law: the stack, own and total weights -/
def ft_s1 (f d i : Nat) : Nat := if i < d then f else 0
def ft_s2 (f g n i : Nat) : Nat := if i + 1 < n then f else if i + 1 = n then g else 0
def ft_s3 (f g n k i : Nat) : Nat := if i < k then g else ft_s2 f g n i
def ft_t1 (n a i : Nat) : Nat := if i ≤ n then a else 0
def ft_o1 (n a i : Nat) : Nat := if i = n then a else 0
def ft_t2 (n a b i : Nat) : Nat := if i < n then a + b else if i = n then a else if i = n + 1 then b else 0
def ft_o2 (n a b i : Nat) : Nat := if i = n then a else if i = n + 1 then b else 0
def ft_t3 (n a b i : Nat) : Nat := if i < n then a + b + 100 else if i = n then a else if i = n + 1 then b else 0
def ft_o3 (n a b i : Nat) : Nat := if i + 1 = n then 100 else if i = n then a else if i = n + 1 then b else 0
def ft_t5 (n a b j i : Nat) : Nat := if i = 0 then a + b + 107 + j else if i < n then a + b + 100 else if i = n then a else if i = n + 1 then b else if i < n + 10 then j else 0
def ft_o5 (n a b j i : Nat) : Nat := if i = 0 then 7 else if i + 1 = n then 100 else if i = n then a else if i = n + 1 then b else if i = n + 9 then j else 0
/-- the nodes of the path f .. f g and of the path g .. g -/
def ft_pb (n k : Nat) : Nat := if k < n then k else n + 1
def ft_pg (n k : Nat) : Nat := if k = 0 then 0 else n + 1 + k
theorem ft_pa1 {n i : Nat} (h : i ≤ n) : ft_pa n i = i - 1 := if_pos h
theorem ft_pa2 {n : Nat} : ft_pa n (n + 1) = n - 1 := by
  unfold ft_pa
  rw [if_neg (by omega), if_pos rfl]
theorem ft_pa3 {n : Nat} : ft_pa n (n + 2) = 0 := by
  unfold ft_pa
  rw [if_neg (by omega), if_neg (by omega), if_pos rfl]
theorem ft_pa4 {n i : Nat} (h : n + 3 ≤ i) : ft_pa n i = i - 1 := by
  unfold ft_pa
  rw [if_neg (by omega), if_neg (by omega), if_neg (by omega)]
theorem ft_offRoot {f g n x : Nat} (hn : 2 ≤ n) (hne : ¬ nI f = nI x) : ft_off f g n (n + 2) 0 x := by
  have e : ft_ch n (n + 2) 0 = 1 := by
    unfold ft_ch
    (repeat' split) <;> omega
  unfold ft_off
  rw [e]
  refine Or.inr ⟨by omega, by omega, ?_, ?_⟩
  · rw [ft_fnL (by omega)]
    exact hne
  · unfold ft_si
    (repeat' split) <;> omega
theorem ft_pathF {f g n d : Nat} {st : Nat → Nat} (hd : d < n) (hn7 : n ≤ 7) (hst : ∀ k, k < d → st k = f) : ft_path f g n (n + 2) d st (fun k => k) := by
  refine ⟨by omega, by omega, rfl, fun k hk => ⟨Nat.succ_pos k, show k + 1 < n + 2 by omega, ?_, (ft_fnL (show k + 1 ≤ n by omega)).trans (hst k hk).symm⟩⟩
  show ft_ch n (n + 2) k = k + 1
  unfold ft_ch
  (repeat' split) <;> omega
theorem ft_pathB {f g n : Nat} (hn : 2 ≤ n) (hn7 : n ≤ 7) : ft_path f g n (n + 2) n (ft_s2 f g n) (ft_pb n) := by
  refine ⟨by omega, by omega, if_pos (by omega), fun k hk => ?_⟩
  rcases Nat.lt_or_ge (k + 1) n with z | z
  · have e1 : ft_pb n k = k := if_pos hk
    have e2 : ft_pb n (k + 1) = k + 1 := if_pos z
    have e3 : ft_s2 f g n k = f := if_pos z
    rw [e1, e2, e3]
    refine ⟨by omega, by omega, ?_, ft_fnL (by omega)⟩
    unfold ft_ch
    (repeat' split) <;> omega
  · have e1 : ft_pb n k = k := if_pos hk
    have e2 : ft_pb n (k + 1) = n + 1 := if_neg (by omega)
    have e3 : ft_s2 f g n k = g := by
      unfold ft_s2
      rw [if_neg (by omega), if_pos (by omega)]
    rw [e1, e2, e3]
    refine ⟨by omega, by omega, ?_, ft_fnG (by omega)⟩
    unfold ft_ch
    (repeat' split) <;> omega
theorem ft_pathG {f g n : Nat} (hn : 2 ≤ n) (hn7 : n ≤ 7) : ft_path f g n (n + 10) 8 (ft_s3 f g n 8) (ft_pg n) := by
  refine ⟨by omega, by omega, rfl, fun k hk => ?_⟩
  have e2 : ft_pg n (k + 1) = n + 1 + (k + 1) := if_neg (by omega)
  have e3 : ft_s3 f g n 8 k = g := if_pos hk
  rw [e2, e3]
  refine ⟨by omega, by omega, ?_, ft_fnG (by omega)⟩
  unfold ft_pg ft_ch
  by_cases z : k = 0
  · rw [if_pos z, if_pos rfl, if_pos (by omega)]
    omega
  · rw [if_neg z]
    (repeat' split) <;> omega
section
variable {post : Int32 → Prop} {f g n a b j : Nat} {d s nd : Int32} {a1 a2 a4 a5 a6 a7 : Nat → Int32}
theorem ft_bt2 (ha : a ≤ 100) (hb : b ≤ 100) (i : Nat) : ft_t2 n a b i < 2 ^ 31 := by
  unfold ft_t2
  (repeat' split) <;> omega
theorem ft_bt3 (ha : a ≤ 100) (hb : b ≤ 100) (i : Nat) : ft_t3 n a b i < 2 ^ 31 := by
  unfold ft_t3
  (repeat' split) <;> omega
theorem ft_bt5 (ha : a ≤ 100) (hb : b ≤ 100) (hj : j ≤ 100) (i : Nat) : ft_t5 n a b j i < 2 ^ 31 := by
  unfold ft_t5
  (repeat' split) <;> omega
/-! the tree of n + 2 nodes -/
theorem ft_2incF (hn : 2 ≤ n) (hn7 : n ≤ 7) (hf : f < 8) (hne : ¬ nI f = nI g) (H : post (nI (a + b))) : wpX_inclusive post (d, s, nI (n + 2), a1, ft_F f g n (n + 2), ft_N (ft_ap n (n + 2)), a4, a5, a6, ft_N (ft_t2 n a b)) (nI f) := by
  refine ft_inc (Sg := fun i => if i ≤ 1 then 0 else a + b) hf (by omega) (by omega) rfl (fun i h1 h2 => ?_) ?_
  · rcases Nat.lt_or_ge n i with z | z
    · refine Or.inl ⟨?_, ?_⟩
      · rw [ft_fnG z]
        exact fun e => hne e.symm
      · try dsimp only
        (repeat' split) <;> omega
    · refine Or.inr ⟨ft_fnL z, ?_⟩
      rcases Nat.lt_or_ge 1 i with y | y
      · refine Or.inl ⟨fun ψ h => ft_saHit (q := i - 1) h2 (by omega) (ft_pa1 z) (by omega) (by omega) (ft_fnL (by omega)) h, ?_⟩
        try dsimp only
        (repeat' split) <;> omega
      · refine Or.inr ⟨fun ψ h => ft_saRoot h2 (by omega) ((ft_pa1 z).trans (by omega)) h, ?_⟩
        dsimp only [ft_t2]
        (repeat' split) <;> omega
  · try dsimp only
    rw [if_neg (by omega)]
    exact H
theorem ft_saMid {x2 : Int32} {m x : Nat} {ψ : Int32 → Prop} (hn : 2 ≤ n) (h1 : n + 1 < m) (hm : m ≤ 300) (hx : ¬ nI f = nI x) (h : ψ 0) : wpX_standsAbove ψ (d, s, nd, a1, ft_F f g n m, ft_N (ft_ap n m), a4, a5, a6, a7) (nI (n + 1)) x2 (nI x) :=
  ft_saIn h1 hm ft_pa2 ⟨n - 1 + 1, ft_saUp hm hx h (n - 1) (by omega) (by omega) _⟩
theorem ft_2incG (hn : 2 ≤ n) (hn7 : n ≤ 7) (hg : g < 8) (hne : ¬ nI f = nI g) (H : post (nI b)) : wpX_inclusive post (d, s, nI (n + 2), a1, ft_F f g n (n + 2), ft_N (ft_ap n (n + 2)), a4, a5, a6, ft_N (ft_t2 n a b)) (nI g) := by
  refine ft_inc (Sg := fun i => if i ≤ n + 1 then 0 else b) hg (by omega) (by omega) (if_pos (by omega)) (fun i h1 h2 => ?_) ?_
  · rcases Nat.lt_or_ge n i with z | z
    · have e : i = n + 1 := by omega
      subst e
      refine Or.inr ⟨ft_fnG z, Or.inr ⟨fun ψ h => ft_saMid hn h2 (by omega) hne h, ?_⟩⟩
      dsimp only [ft_t2]
      (repeat' split) <;> omega
    · refine Or.inl ⟨?_, ?_⟩
      · rw [ft_fnL z]
        exact hne
      · try dsimp only
        (repeat' split) <;> omega
  · try dsimp only
    rw [if_neg (by omega)]
    exact H
theorem ft_2excF {a3 : Nat → Int32} (hn : 2 ≤ n) (hn7 : n ≤ 7) (hf : f < 8) (hne : ¬ nI f = nI g) (H : post (nI a)) : wpX_exclusive post (d, s, nI (n + 2), a1, ft_F f g n (n + 2), a3, a4, a5, ft_N (ft_o2 n a b), a7) (nI f) := by
  refine ft_exc (Sg := fun i => if i ≤ n then 0 else a) hf (by omega) (by omega) (if_pos (by omega)) (fun i h1 h2 => ?_) ?_
  · rcases Nat.lt_or_ge n i with z | z
    · refine Or.inl ⟨?_, ?_⟩
      · rw [ft_fnG z]
        exact fun e => hne e.symm
      · try dsimp only
        (repeat' split) <;> omega
    · refine Or.inr ⟨ft_fnL z, ?_⟩
      dsimp only [ft_o2]
      (repeat' split) <;> omega
  · try dsimp only
    rw [if_neg (by omega)]
    exact H
theorem ft_2excG {a3 : Nat → Int32} (hn : 2 ≤ n) (hn7 : n ≤ 7) (hg : g < 8) (hne : ¬ nI f = nI g) (H : post (nI b)) : wpX_exclusive post (d, s, nI (n + 2), a1, ft_F f g n (n + 2), a3, a4, a5, ft_N (ft_o2 n a b), a7) (nI g) := by
  refine ft_exc (Sg := fun i => if i ≤ n + 1 then 0 else b) hg (by omega) (by omega) (if_pos (by omega)) (fun i h1 h2 => ?_) ?_
  · rcases Nat.lt_or_ge n i with z | z
    · refine Or.inr ⟨ft_fnG z, ?_⟩
      dsimp only [ft_o2]
      (repeat' split) <;> omega
    · refine Or.inl ⟨?_, ?_⟩
      · rw [ft_fnL z]
        exact hne
      · try dsimp only
        (repeat' split) <;> omega
  · try dsimp only
    rw [if_neg (by omega)]
    exact H
theorem ft_3excF {a3 : Nat → Int32} (hn : 2 ≤ n) (hn7 : n ≤ 7) (hf : f < 8) (hne : ¬ nI f = nI g) (H : post (nI (a + 100))) : wpX_exclusive post (d, s, nI (n + 2), a1, ft_F f g n (n + 2), a3, a4, a5, ft_N (ft_o3 n a b), a7) (nI f) := by
  refine ft_exc (Sg := fun i => if i < n then 0 else if i = n then 100 else a + 100) hf (by omega) (by omega) (if_pos (by omega)) (fun i h1 h2 => ?_) ?_
  · rcases Nat.lt_or_ge n i with z | z
    · refine Or.inl ⟨?_, ?_⟩
      · rw [ft_fnG z]
        exact fun e => hne e.symm
      · try dsimp only
        (repeat' split) <;> omega
    · refine Or.inr ⟨ft_fnL z, ?_⟩
      dsimp only [ft_o3]
      (repeat' split) <;> omega
  · try dsimp only
    rw [if_neg (by omega), if_neg (by omega)]
    exact H
theorem ft_2edgeFG (hn : 2 ≤ n) (hn7 : n ≤ 7) (hf : f < 8) (hg : g < 8) (hne : ¬ nI f = nI g) (H : post (nI b)) : wpX_edge post (d, s, nI (n + 2), a1, ft_F f g n (n + 2), ft_N (ft_ap n (n + 2)), a4, a5, a6, ft_N (ft_t2 n a b)) (nI f) (nI g) := by
  refine ft_edge (Sg := fun i => if i ≤ n + 1 then 0 else b) hf hg (by omega) (by omega) (if_pos (by omega)) (fun i h1 h2 => ?_) ?_
  · rcases Nat.lt_or_ge n i with z | z
    · have e : i = n + 1 := by omega
      subst e
      refine Or.inr (Or.inr ⟨ft_fnG z, ?_, Or.inr ⟨fun ψ h => ft_saMid hn h2 (by omega) hne h, ?_⟩⟩)
      · rw [ft_pa2, ft_Fv (by omega) (by omega), ft_fnL (by omega)]
      · dsimp only [ft_t2]
        (repeat' split) <;> omega
    · refine Or.inl ⟨?_, ?_⟩
      · rw [ft_fnL z]
        exact hne
      · try dsimp only
        (repeat' split) <;> omega
  · try dsimp only
    rw [if_neg (by omega)]
    exact H
theorem ft_2edgeGF (hn : 2 ≤ n) (hn7 : n ≤ 7) (hf : f < 8) (hg : g < 8) (hne : ¬ nI f = nI g) (H : post (nI 0)) : wpX_edge post (d, s, nI (n + 2), a1, ft_F f g n (n + 2), ft_N (ft_ap n (n + 2)), a4, a5, a6, ft_N (ft_t2 n a b)) (nI g) (nI f) := by
  refine ft_edge (Sg := fun _ => 0) hg hf (by omega) (by omega) rfl (fun i h1 h2 => ?_) H
  rcases Nat.lt_or_ge n i with z | z
  · refine Or.inl ⟨?_, rfl⟩
    rw [ft_fnG z]
    exact fun e => hne e.symm
  · refine Or.inr (Or.inl ⟨ft_fnL z, ?_, rfl⟩)
    rw [ft_pa1 z]
    rcases Nat.lt_or_ge 1 i with y | y
    · rw [ft_Fv (by omega) (by omega), ft_fnL (by omega)]
      exact hne
    · rw [show i - 1 = 0 by omega, ft_F0]
      exact ft_m1 (by omega)
theorem ft_2edgeFF (hn : 2 ≤ n) (hn7 : n ≤ 7) (hf : f < 8) (hne : ¬ nI f = nI g) (H : post (nI (ft_t2 n a b 2))) : wpX_edge post (d, s, nI (n + 2), a1, ft_F f g n (n + 2), ft_N (ft_ap n (n + 2)), a4, a5, a6, ft_N (ft_t2 n a b)) (nI f) (nI f) := by
  refine ft_edge (Sg := fun i => if i ≤ 2 then 0 else ft_t2 n a b 2) hf hf (by omega) (by omega) rfl (fun i h1 h2 => ?_) ?_
  · rcases Nat.lt_or_ge n i with z | z
    · refine Or.inl ⟨?_, ?_⟩
      · rw [ft_fnG z]
        exact fun e => hne e.symm
      · try dsimp only
        rw [if_neg (by omega), if_neg (by omega)]
    · refine Or.inr ?_
      rcases Nat.lt_or_ge 1 i with y | y
      · have eF : ft_F f g n (n + 2) (ft_pa n i) = nI f := by
          rw [ft_pa1 z, ft_Fv (by omega) (by omega), ft_fnL (by omega)]
        refine Or.inr ⟨ft_fnL z, eF, ?_⟩
        rcases Nat.lt_or_ge 2 i with x | x
        · refine Or.inl ⟨fun ψ h => ft_saHit2 (q := i - 1) (r := i - 1 - 1) h2 (by omega) (ft_pa1 z) (by omega) (by omega) (ft_fnL (by omega)) (ft_pa1 (by omega)) (by omega) (by omega) (ft_fnL (by omega)) hf h, ?_⟩
          try dsimp only
          rw [if_neg (by omega), if_neg (by omega)]
        · have e : i = 2 := by omega
          subst e
          refine Or.inr ⟨fun ψ h => ft_saOne (q := 1) h2 (by omega) (ft_pa1 z) (by omega) (by omega) (ft_fnL (by omega)) (ft_pa1 (by omega)) hf h, ?_⟩
          try dsimp only
          rw [if_neg (by omega), if_pos (by omega)]
          omega
      · refine Or.inl ⟨ft_fnL z, ?_, ?_⟩
        · rw [ft_pa1 z, show i - 1 = 0 by omega, ft_F0]
          exact ft_m1 (by omega)
        · try dsimp only
          rw [if_pos (by omega), if_pos (by omega)]
  · try dsimp only
    rw [if_neg (by omega)]
    exact H
theorem ft_2paths1 {a3 : Nat → Int32} (hn : 2 ≤ n) (hn7 : n ≤ 7) (ha1 : 1 ≤ a) (ha : a ≤ 100) (hb1 : 1 ≤ b) (hb : b ≤ 100) (H : post (nI (n + 1))) : wpX_paths post (d, s, nI (n + 2), a1, a2, a3, a4, a5, a6, ft_N (ft_t2 n a b)) (nI 1) := by
  refine ft_paths (Sg := fun i => i - 1) (by omega) (by omega) (ft_bt2 ha hb) (by omega) (by omega) rfl (fun i h1 h2 => Or.inr ⟨?_, ?_⟩) H
  · unfold ft_t2
    (repeat' split) <;> omega
  · try dsimp only
    omega
theorem ft_3paths1 {a3 : Nat → Int32} (hn : 2 ≤ n) (hn7 : n ≤ 7) (ha1 : 1 ≤ a) (ha : a ≤ 100) (hb1 : 1 ≤ b) (hb : b ≤ 100) (H : post (nI (n + 1))) : wpX_paths post (d, s, nI (n + 2), a1, a2, a3, a4, a5, a6, ft_N (ft_t3 n a b)) (nI 1) := by
  refine ft_paths (Sg := fun i => i - 1) (by omega) (by omega) (ft_bt3 ha hb) (by omega) (by omega) rfl (fun i h1 h2 => Or.inr ⟨?_, ?_⟩) H
  · unfold ft_t3
    (repeat' split) <;> omega
  · try dsimp only
    omega
theorem ft_2pathsAB {a3 : Nat → Int32} (hn : 2 ≤ n) (hn7 : n ≤ 7) (ha1 : 1 ≤ a) (ha : a ≤ 100) (hb1 : 1 ≤ b) (hb : b ≤ 100) (H : post (nI (n - 1))) : wpX_paths post (d, s, nI (n + 2), a1, a2, a3, a4, a5, a6, ft_N (ft_t2 n a b)) (nI (a + b)) := by
  refine ft_paths (Sg := fun i => if i < n then i - 1 else n - 1) (by omega) (by omega) (ft_bt2 ha hb) (by omega) (by omega) ?_ (fun i h1 h2 => ?_) ?_
  · try dsimp only
    (repeat' split) <;> omega
  · rcases Nat.lt_or_ge i n with z | z
    · refine Or.inr ⟨?_, ?_⟩
      · unfold ft_t2
        (repeat' split) <;> omega
      · try dsimp only
        (repeat' split) <;> omega
    · refine Or.inl ⟨?_, ?_⟩
      · unfold ft_t2
        (repeat' split) <;> omega
      · try dsimp only
        (repeat' split) <;> omega
  · try dsimp only
    rw [if_neg (by omega)]
    exact H
theorem ft_2pathsNo {a3 : Nat → Int32} (hn : 2 ≤ n) (hn7 : n ≤ 7) (ha1 : 1 ≤ a) (ha : a ≤ 100) (hb1 : 1 ≤ b) (hb : b ≤ 100) (H : post (nI 0)) : wpX_paths post (d, s, nI (n + 2), a1, a2, a3, a4, a5, a6, ft_N (ft_t2 n a b)) (nI (a + b + 1)) := by
  refine ft_paths (Sg := fun _ => 0) (by omega) (by omega) (ft_bt2 ha hb) (by omega) (by omega) rfl (fun i h1 h2 => Or.inl ⟨?_, rfl⟩) H
  unfold ft_t2
  (repeat' split) <;> omega
theorem ft_2deep1 (hn : 2 ≤ n) (hn7 : n ≤ 7) (ha1 : 1 ≤ a) (ha : a ≤ 100) (hb1 : 1 ≤ b) (hb : b ≤ 100) (H : post (nI n)) : wpX_deepest post (d, s, nI (n + 2), a1, a2, ft_N (ft_ap n (n + 2)), a4, a5, a6, ft_N (ft_t2 n a b)) (nI 1) := by
  refine ft_deep (K := n) hn (by omega) (by omega) (ft_bt2 ha hb) (by omega) (by omega) (by omega) (fun i h1 h2 _ => ?_) (Or.inr ⟨n, by omega, by omega, ?_, ?_⟩) H
  · unfold ft_dp
    (repeat' split) <;> omega
  · unfold ft_t2
    (repeat' split) <;> omega
  · unfold ft_dp
    (repeat' split) <;> omega
theorem ft_2deepAB (hn : 2 ≤ n) (hn7 : n ≤ 7) (ha1 : 1 ≤ a) (ha : a ≤ 100) (hb1 : 1 ≤ b) (hb : b ≤ 100) (H : post (nI (n - 1))) : wpX_deepest post (d, s, nI (n + 2), a1, a2, ft_N (ft_ap n (n + 2)), a4, a5, a6, ft_N (ft_t2 n a b)) (nI (a + b)) := by
  refine ft_deep (K := n - 1) hn (by omega) (by omega) (ft_bt2 ha hb) (by omega) (by omega) (by omega) (fun i h1 h2 h3 => ?_) (Or.inr ⟨n - 1, by omega, by omega, ?_, ?_⟩) H
  · unfold ft_t2 at h3
    unfold ft_dp
    (repeat' split at h3) <;> (repeat' split) <;> omega
  · unfold ft_t2
    (repeat' split) <;> omega
  · unfold ft_dp
    (repeat' split) <;> omega
theorem ft_2deepNo (hn : 2 ≤ n) (hn7 : n ≤ 7) (ha1 : 1 ≤ a) (ha : a ≤ 100) (hb1 : 1 ≤ b) (hb : b ≤ 100) (H : post (nI 0)) : wpX_deepest post (d, s, nI (n + 2), a1, a2, ft_N (ft_ap n (n + 2)), a4, a5, a6, ft_N (ft_t2 n a b)) (nI (a + b + 1)) := by
  refine ft_deep (K := 0) hn (by omega) (by omega) (ft_bt2 ha hb) (by omega) (by omega) (by omega) (fun i h1 h2 h3 => ?_) (Or.inl rfl) H
  unfold ft_t2 at h3
  (repeat' split at h3) <;> omega
/-! the tree of n + 10 nodes -/
theorem ft_5deep (hn : 2 ≤ n) (hn7 : n ≤ 7) (ha : a ≤ 100) (hb : b ≤ 100) (H : post (nI 8)) : wpX_deepest post (d, s, nI (n + 10), a1, a2, ft_N (ft_ap n (n + 10)), a4, a5, a6, ft_N (ft_t5 n a b 36)) (nI 36) := by
  refine ft_deep (K := 8) hn (by omega) (by omega) (ft_bt5 ha hb (by omega)) (by omega) (by omega) (by omega) (fun i h1 h2 _ => ?_) (Or.inr ⟨n + 9, by omega, by omega, ?_, ?_⟩) H
  · unfold ft_dp
    (repeat' split) <;> omega
  · unfold ft_t5
    (repeat' split) <;> omega
  · unfold ft_dp
    (repeat' split) <;> omega
theorem ft_5paths {a3 : Nat → Int32} (hn : 2 ≤ n) (hn7 : n ≤ 7) (ha1 : 1 ≤ a) (ha : a ≤ 100) (hb1 : 1 ≤ b) (hb : b ≤ 100) (H : post (nI (n + 9))) : wpX_paths post (d, s, nI (n + 10), a1, a2, a3, a4, a5, a6, ft_N (ft_t5 n a b 36)) (nI 1) := by
  refine ft_paths (Sg := fun i => i - 1) (by omega) (by omega) (ft_bt5 ha hb (by omega)) (by omega) (by omega) rfl (fun i h1 h2 => Or.inr ⟨?_, ?_⟩) H
  · unfold ft_t5
    (repeat' split) <;> omega
  · try dsimp only
    omega
theorem ft_5edge (hn : 2 ≤ n) (hn7 : n ≤ 7) (hf : f < 8) (hg : g < 8) (hne : ¬ nI f = nI g) (H : post (nI 36)) : wpX_edge post (d, s, nI (n + 10), a1, ft_F f g n (n + 10), ft_N (ft_ap n (n + 10)), a4, a5, a6, ft_N (ft_t5 n a b 36)) (nI g) (nI g) := by
  refine ft_edge (Sg := fun i => if i ≤ n + 3 then 0 else 36) hg hg (by omega) (by omega) (if_pos (by omega)) (fun i h1 h2 => ?_) ?_
  · rcases Nat.lt_or_ge n i with z | z
    · refine Or.inr ?_
      rcases Nat.lt_or_ge (n + 2) i with y | y
      · have eF : ft_F f g n (n + 10) (ft_pa n i) = nI g := by
          rw [ft_pa4 y, ft_Fv (by omega) (by omega), ft_fnG (by omega)]
        refine Or.inr ⟨ft_fnG z, eF, ?_⟩
        rcases Nat.lt_or_ge (n + 3) i with x | x
        · refine Or.inl ⟨fun ψ h => ft_saHit2 (q := i - 1) (r := i - 1 - 1) h2 (by omega) (ft_pa4 y) (by omega) (by omega) (ft_fnG (by omega)) (ft_pa4 (by omega)) (by omega) (by omega) (ft_fnG (by omega)) hg h, ?_⟩
          try dsimp only
          rw [if_neg (by omega), if_neg (by omega)]
        · have e : i = n + 3 := by omega
          subst e
          refine Or.inr ⟨fun ψ h => ft_saOne (q := n + 2) h2 (by omega) (ft_pa4 y) (by omega) (by omega) (ft_fnG (by omega)) ft_pa3 hg h, ?_⟩
          dsimp only [ft_t5]
          (repeat' split) <;> omega
      · refine Or.inl ⟨ft_fnG z, ?_, ?_⟩
        · rcases Nat.lt_or_ge (n + 1) i with x | x
          · have e : i = n + 2 := by omega
            rw [e, ft_pa3, ft_F0]
            exact ft_m1 (by omega)
          · have e : i = n + 1 := by omega
            rw [e, ft_pa2, ft_Fv (by omega) (by omega), ft_fnL (by omega)]
            exact hne
        · try dsimp only
          rw [if_pos (by omega), if_pos (by omega)]
    · refine Or.inl ⟨?_, ?_⟩
      · rw [ft_fnL z]
        exact hne
      · try dsimp only
        rw [if_pos (by omega), if_pos (by omega)]
  · try dsimp only
    rw [if_neg (by omega)]
    exact H
theorem ft_5inc (hn : 2 ≤ n) (hn7 : n ≤ 7) (hg : g < 8) (hne : ¬ nI f = nI g) (H : post (nI (b + 36))) : wpX_inclusive post (d, s, nI (n + 10), a1, ft_F f g n (n + 10), ft_N (ft_ap n (n + 10)), a4, a5, a6, ft_N (ft_t5 n a b 36)) (nI g) := by
  refine ft_inc (Sg := fun i => if i ≤ n + 1 then 0 else if i ≤ n + 2 then b else b + 36) hg (by omega) (by omega) (if_pos (by omega)) (fun i h1 h2 => ?_) ?_
  · rcases Nat.lt_or_ge n i with z | z
    · refine Or.inr ⟨ft_fnG z, ?_⟩
      rcases Nat.lt_or_ge (n + 2) i with y | y
      · refine Or.inl ⟨fun ψ h => ft_saHit (q := i - 1) h2 (by omega) (ft_pa4 y) (by omega) (by omega) (ft_fnG (by omega)) h, ?_⟩
        try dsimp only
        (repeat' split) <;> omega
      · refine Or.inr ?_
        rcases Nat.lt_or_ge (n + 1) i with x | x
        · have e : i = n + 2 := by omega
          subst e
          refine ⟨fun ψ h => ft_saRoot h2 (by omega) ft_pa3 h, ?_⟩
          dsimp only [ft_t5]
          (repeat' split) <;> omega
        · have e : i = n + 1 := by omega
          subst e
          refine ⟨fun ψ h => ft_saMid hn h2 (by omega) hne h, ?_⟩
          dsimp only [ft_t5]
          (repeat' split) <;> omega
    · refine Or.inl ⟨?_, ?_⟩
      · rw [ft_fnL z]
        exact hne
      · try dsimp only
        (repeat' split) <;> omega
  · try dsimp only
    rw [if_neg (by omega), if_neg (by omega)]
    exact H
end
end
section
/-! the law from behind: the last loop of samples, the calls of g, the leaves -/
def ft_mm (n i : Nat) : Nat := if i = 4 then n + 2 else n + 10
section
variable {post : Int32 → St0 → Prop} {mc ms kc ks : Nat} {f g n a b : Nat}
/-- one more sample of weight 1 on the path of 8 g -/
theorem ft_one {ψ : Int32 → St2 → Prop} {i : Nat} (hn : 2 ≤ n) (hn7 : n ≤ 7) (hne : ¬ nI f = nI g) (h4 : 4 ≤ i) (hi : i < 40)
    (H : ψ (nI (i + 1)) (ft_St f g n 8 (i + 1) (n + 10) (ft_s3 f g n 8) (ft_o5 n a b (i - 4 + 1)) (ft_t5 n a b (i - 4 + 1)))) :
    wpX_sample ψ (ft_St f g n 8 i (ft_mm n i) (ft_s3 f g n 8) (ft_o5 n a b (i - 4)) (ft_t5 n a b (i - 4))) (nI 1) := by
  have T0 : ∀ i', (if i' = 0 then ft_t5 n a b (i - 4) i' + 1 else if n + 2 ≤ i' ∧ i' ≤ n + 1 + 0 then ft_t5 n a b (i - 4) i' + 1 else ft_t5 n a b (i - 4) i') = if i' = 0 then ft_t5 n a b (i - 4) i' + 1 else ft_t5 n a b (i - 4) i' := by
    intro i'
    (repeat' split) <;> omega
  have T1 : ∀ k, k < 8 → ∀ i', (if i' = 0 then ft_t5 n a b (i - 4) i' + 1 else if n + 2 ≤ i' ∧ i' ≤ n + 1 + (k + 1) then ft_t5 n a b (i - 4) i' + 1 else ft_t5 n a b (i - 4) i') = if i' = ft_pg n (k + 1) then (if i' = 0 then ft_t5 n a b (i - 4) i' + 1 else if n + 2 ≤ i' ∧ i' ≤ n + 1 + k then ft_t5 n a b (i - 4) i' + 1 else ft_t5 n a b (i - 4) i') + 1 else (if i' = 0 then ft_t5 n a b (i - 4) i' + 1 else if n + 2 ≤ i' ∧ i' ≤ n + 1 + k then ft_t5 n a b (i - 4) i' + 1 else ft_t5 n a b (i - 4) i') := by
    intro k hk i'
    rw [show ft_pg n (k + 1) = n + 1 + (k + 1) from if_neg (by omega)]
    (repeat' split) <;> omega
  have T2 : ∀ i', (if i' = 0 then ft_t5 n a b (i - 4) i' + 1 else if n + 2 ≤ i' ∧ i' ≤ n + 1 + 8 then ft_t5 n a b (i - 4) i' + 1 else ft_t5 n a b (i - 4) i') = ft_t5 n a b (i - 4 + 1) i' := by
    intro i'
    unfold ft_t5
    (repeat' split) <;> omega
  have O1 : ∀ i', ft_o5 n a b (i - 4 + 1) i' = if i' = ft_pg n 8 then ft_o5 n a b (i - 4) i' + 1 else ft_o5 n a b (i - 4) i' := by
    intro i'
    rw [show ft_pg n 8 = n + 1 + 8 from if_neg (by omega)]
    unfold ft_o5
    (repeat' split) <;> omega
  by_cases z : i = 4
  · rw [show ft_mm n i = n + 2 from if_pos z]
    refine ft_sample 1 (ft_pg n) (fun k => n + 2 + k) (fun k i' => if i' = 0 then ft_t5 n a b (i - 4) i' + 1 else if n + 2 ≤ i' ∧ i' ≤ n + 1 + k then ft_t5 n a b (i - 4) i' + 1 else ft_t5 n a b (i - 4) i') _ _ hn (by omega) hi (by omega) (by omega) rfl rfl rfl (fun k hk => ?_) (fun k hk => Or.inr ⟨⟨?_, ?_, ?_⟩, ?_, rfl⟩) T0 T1 T2 O1 H
    · unfold ft_pg
      try dsimp only
      split <;> omega
    · rcases Nat.eq_zero_or_pos k with y | y
      · rw [y]
        exact ft_pa3
      · rw [show ft_pg n k = n + 1 + k from if_neg (by omega)]
        exact (ft_pa4 (show n + 3 ≤ n + 2 + k by omega)).trans (by omega)
    · rw [show ft_s3 f g n 8 k = g from if_pos hk]
      exact ft_fnG (show n < n + 2 + k by omega)
    · rw [show ft_s3 f g n 8 k = g from if_pos hk]
      rcases Nat.eq_zero_or_pos k with y | y
      · rw [y]
        exact ft_offRoot hn hne
      · rw [show ft_pg n k = n + 1 + k from if_neg (by omega)]
        refine Or.inl ?_
        show ft_ch n (n + 2 + k) (n + 1 + k) = 0
        unfold ft_ch
        (repeat' split) <;> omega
    · rw [show ft_pg n (k + 1) = n + 1 + (k + 1) from if_neg (by omega)]
      omega
  · rw [show ft_mm n i = n + 10 from if_neg z]
    refine ft_sample 1 (ft_pg n) (fun _ => n + 10) (fun k i' => if i' = 0 then ft_t5 n a b (i - 4) i' + 1 else if n + 2 ≤ i' ∧ i' ≤ n + 1 + k then ft_t5 n a b (i - 4) i' + 1 else ft_t5 n a b (i - 4) i') _ _ hn (by omega) hi (by omega) (by omega) rfl rfl rfl (fun k hk => ?_) (fun k hk => Or.inl ⟨(ft_pathG hn hn7).2.2.2 k hk, rfl⟩) T0 T1 T2 O1 H
    unfold ft_pg
    try dsimp only
    split <;> omega
theorem ft_749 (hn : 2 ≤ n) (hn7 : n ≤ 7) (hf : f < 8) (hg : g < 8) (hne : ¬ nI f = nI g) (ha1 : 1 ≤ a) (ha : a ≤ 100) (hb1 : 1 ≤ b) (hb : b ≤ 100) (H : post 1 ()) :
    ∃ fu, wL_lawOf_749 post mc ms (nI g) (nI n) (nI b) kc ks fu 4 (nI 8) (nI 4) (nI (n + 2)) (ft_N (ft_s3 f g n 8)) (ft_F f g n (n + 2)) (ft_N (ft_ap n (n + 2))) (ft_N (ft_ch n (n + 2))) (ft_N (ft_si n (n + 2))) (ft_N (ft_o5 n a b 0)) (ft_N (ft_t5 n a b 0)) := by
  refine pk_loop (σ := Unit) (fun k i _ => wL_lawOf_749 post mc ms (nI g) (nI n) (nI b) kc ks k (nI i) (nI 8) (nI i) (nI (ft_mm n i)) (ft_N (ft_s3 f g n 8)) (ft_F f g n (ft_mm n i)) (ft_N (ft_ap n (ft_mm n i))) (ft_N (ft_ch n (ft_mm n i))) (ft_N (ft_si n (ft_mm n i))) (ft_N (ft_o5 n a b (i - 4))) (ft_N (ft_t5 n a b (i - 4)))) (fun i _ => 4 ≤ i) 40 4 () (by omega) (Nat.le_refl 4) (fun k _ _ => ?_) (fun k i _ hi h4 hw => ?_)
  · refine pk_le 40 40 (fun _ => ?_) (fun z => absurd z (by omega))
    refine ft_sampleFull (f := f) (g := g) (n := n) (s := 40) (m := n + 10) (st := ft_s3 f g n 8) (o := ft_o5 n a b 36) (t := ft_t5 n a b 36) (w := 1) (by omega) (by omega) (by omega) (by omega) (br_t rfl ?_)
    refine ft_own (ft_pg n) (ft_pathG hn hn7) (by omega) (br_t ?_ ?_)
    · refine congrArg nI (?_ : ft_o5 n a b 36 (ft_pg n 8) = 36)
      rw [show ft_pg n 8 = n + 1 + 8 from if_neg (by omega)]
      unfold ft_o5
      (repeat' split) <;> omega
    refine ft_5deep hn hn7 ha hb (br_t rfl ?_)
    refine ft_5paths hn hn7 ha1 ha hb1 hb (br_t (nI_add n 9).symm ?_)
    refine ft_5edge hn hn7 hf hg hne (br_t rfl ?_)
    exact ft_5inc hn hn7 hg hne (br_t (nI_add b 36).symm H)
  · have hw' : wL_lawOf_749 post mc ms (nI g) (nI n) (nI b) kc ks k (nI (i + 1)) (nI 8) (nI (i + 1)) (nI (ft_mm n (i + 1))) (ft_N (ft_s3 f g n 8)) (ft_F f g n (ft_mm n (i + 1))) (ft_N (ft_ap n (ft_mm n (i + 1)))) (ft_N (ft_ch n (ft_mm n (i + 1)))) (ft_N (ft_si n (ft_mm n (i + 1)))) (ft_N (ft_o5 n a b (i + 1 - 4))) (ft_N (ft_t5 n a b (i + 1 - 4))) := hw () (Nat.le_succ_of_le h4)
    rw [show ft_mm n (i + 1) = n + 10 from if_neg (by omega), show i + 1 - 4 = i - 4 + 1 by omega] at hw'
    exact pk_le 40 i (fun z => absurd z (by omega)) (fun _ => ft_one hn hn7 hne h4 hi (br_t (nI_1 i).symm (nm_r (nI_1 i) hw')))
theorem ft_654 (hn : 2 ≤ n) (hn7 : n ≤ 7) (hf : f < 8) (hg : g < 8) (hne : ¬ nI f = nI g) (ha1 : 1 ≤ a) (ha : a ≤ 100) (hb1 : 1 ≤ b) (hb : b ≤ 100) (H : post 1 ()) :
    ∃ fu, wL_lawOf_654 post mc ms (nI f) (nI g) (nI n) (nI b) kc ks fu 0 (nI 0) (nI 4) (nI (n + 2)) (ft_N (ft_s2 f g n)) (ft_F f g n (n + 2)) (ft_N (ft_ap n (n + 2))) (ft_N (ft_ch n (n + 2))) (ft_N (ft_si n (n + 2))) (ft_N (ft_o5 n a b 0)) (ft_N (ft_t5 n a b 0)) := by
  have e0 : ft_s3 f g n 0 = ft_s2 f g n := funext (fun i => if_neg (by omega))
  rw [← e0]
  refine pk_loop (σ := Unit) (fun k i _ => wL_lawOf_654 post mc ms (nI f) (nI g) (nI n) (nI b) kc ks k (nI i) (nI i) (nI 4) (nI (n + 2)) (ft_N (ft_s3 f g n i)) (ft_F f g n (n + 2)) (ft_N (ft_ap n (n + 2))) (ft_N (ft_ch n (n + 2))) (ft_N (ft_si n (n + 2))) (ft_N (ft_o5 n a b 0)) (ft_N (ft_t5 n a b 0))) (fun _ _ => True) 8 0 () (by omega) trivial (fun k _ _ => ?_) (fun k i _ hi _ hw => ?_)
  · refine pk_le 8 8 (fun _ => ?_) (fun z => absurd z (by omega))
    refine ft_callFull (f := f) (g := g) (n := n) (s := 4) (m := n + 2) (st := ft_s3 f g n 8) (o := ft_o5 n a b 0) (t := ft_t5 n a b 0) hf (br_t rfl ?_)
    refine ft_totalOff (by omega) (by omega) (by omega) (ft_offRoot hn hne) (br_t rfl ?_)
    refine ft_hotOff (by omega) (by omega) (by omega) (ft_offRoot hn hne) (br_t rfl ?_)
    refine ft_call8 (br_t rfl ?_)
    refine ft_edge8 (br_t rfl ?_)
    refine ft_excM (br_t rfl ?_)
    exact ft_749 hn hn7 hf hg hne ha1 ha hb1 hb H
  · have hw' := hw () trivial
    refine pk_le 8 i (fun z => absurd z (by omega)) (fun _ => ft_call (st' := ft_s3 f g n (i + 1)) hg hi (fun j => ?_) (br_t (nI_1 i).symm (nm_r (nI_1 i) hw')))
    unfold ft_s3
    (repeat' split) <;> omega
theorem ft_535 (hn : 2 ≤ n) (hn7 : n ≤ 7) (hf : f < 8) (hg : g < 8) (hne : ¬ nI f = nI g) (ha1 : 1 ≤ a) (ha : a ≤ 100) (hb1 : 1 ≤ b) (hb : b ≤ 100) (H : post 1 ()) :
    ∃ fu, wL_lawOf_535 post mc ms (nI f) (nI g) (nI n) (nI a) (nI b) kc ks fu 0 (nI (n - 1)) (nI 3) (nI (n + 2)) (ft_N (ft_s2 f g n)) (ft_F f g n (n + 2)) (ft_N (ft_ap n (n + 2))) (ft_N (ft_ch n (n + 2))) (ft_N (ft_si n (n + 2))) (ft_N (ft_o3 n a b)) (ft_N (ft_t3 n a b)) := by
  refine pk_loop (σ := Unit) (fun k i _ => wL_lawOf_535 post mc ms (nI f) (nI g) (nI n) (nI a) (nI b) kc ks k (nI i) (nI (n - 1 - i)) (nI 3) (nI (n + 2)) (ft_N (ft_s2 f g n)) (ft_F f g n (n + 2)) (ft_N (ft_ap n (n + 2))) (ft_N (ft_ch n (n + 2))) (ft_N (ft_si n (n + 2))) (ft_N (ft_o3 n a b)) (ft_N (ft_t3 n a b))) (fun _ _ => True) 8 0 () (by omega) trivial (fun k _ _ => ?_) (fun k i _ hi _ hw => ?_)
  · have P0 : ft_path f g n (n + 2) 0 (ft_s2 f g n) (fun k => k) := ft_pathF (by omega) hn7 (fun k hk => absurd hk (by omega))
    show wL_lawOf_535 post mc ms (nI f) (nI g) (nI n) (nI a) (nI b) kc ks (k + 1) (nI 8) (nI (n - 1 - 8)) (nI 3) (nI (n + 2)) (ft_N (ft_s2 f g n)) (ft_F f g n (n + 2)) (ft_N (ft_ap n (n + 2))) (ft_N (ft_ch n (n + 2))) (ft_N (ft_si n (n + 2))) (ft_N (ft_o3 n a b)) (ft_N (ft_t3 n a b))
    rw [show n - 1 - 8 = 0 by omega]
    refine pk_le 8 8 (fun _ => ?_) (fun z => absurd z (by omega))
    refine ft_leave0 (f := f) (g := g) (n := n) (s := 3) (m := n + 2) (st := ft_s2 f g n) (o := ft_o3 n a b) (t := ft_t3 n a b) (br_t rfl ?_)
    refine ft_own (fun k => k) P0 (by omega) (br_t ?_ ?_)
    · refine congrArg nI (?_ : ft_o3 n a b 0 = 0)
      unfold ft_o3
      (repeat' split) <;> omega
    refine ft_total (fun k => k) P0 (by omega) (br_t ?_ ?_)
    · rw [show (100 : Int32) = nI 100 from rfl, nI_add, nI_add]
      refine congrArg nI (?_ : ft_t3 n a b 0 = a + b + 100)
      unfold ft_t3
      (repeat' split) <;> omega
    refine ft_hot (fun k => k) P0 (by omega) (by omega) ⟨2, ?_⟩
    rw [show ft_ch n (n + 2) 0 = 1 by unfold ft_ch; (repeat' split) <;> omega]
    refine ft_hFirst (by omega) (by omega) ?_
    rw [show ft_si n (n + 2) 1 = 0 by unfold ft_si; (repeat' split) <;> omega]
    refine ft_hEnd (by omega) (by omega) (by omega) (br_t (by rw [ft_fnL (by omega)]) ?_)
    refine ft_sample (f := f) (g := g) (n := n) (d := 0) (s := 3) (st := ft_s2 f g n) (o := ft_o3 n a b) (t := ft_t3 n a b) 7 (fun k => k) (fun _ => n + 2) (fun _ i => if i = 0 then ft_t3 n a b i + 7 else ft_t3 n a b i) (ft_o5 n a b 0) (ft_t5 n a b 0) hn (by omega) (by omega) (by omega) (by omega) rfl rfl rfl (fun k hk => ⟨show k < n + 2 by omega, show n + 2 ≤ 300 by omega⟩) (fun k hk => absurd hk (by omega)) (fun i => rfl) (fun k hk => absurd hk (by omega)) (fun i => ?_) (fun i => ?_) (br_t rfl ?_)
    · unfold ft_t5 ft_t3
      (repeat' split) <;> omega
    · unfold ft_o5 ft_o3
      try dsimp only
      (repeat' split) <;> omega
    refine ft_own (fun k => k) P0 (by omega) (br_t rfl ?_)
    refine ft_total (fun k => k) P0 (by omega) (br_t ?_ ?_)
    · rw [show (107 : Int32) = nI 107 from rfl, nI_add, nI_add]
      rfl
    exact ft_654 hn hn7 hf hg hne ha1 ha hb1 hb H
  · have hw' := hw () trivial
    refine pk_le 8 i (fun z => absurd z (by omega)) (fun _ => pk_le (n - 1) i (fun z => nm_r (nI_1 i) ?_) (fun z => ?_) (pk_sub (a := n) (b := 1) (by omega)))
    · have e : n - 1 - (i + 1) = n - 1 - i := by omega
      have t : wL_lawOf_535 post mc ms (nI f) (nI g) (nI n) (nI a) (nI b) kc ks k (nI (i + 1)) (nI (n - 1 - (i + 1))) (nI 3) (nI (n + 2)) (ft_N (ft_s2 f g n)) (ft_F f g n (n + 2)) (ft_N (ft_ap n (n + 2))) (ft_N (ft_ch n (n + 2))) (ft_N (ft_si n (n + 2))) (ft_N (ft_o3 n a b)) (ft_N (ft_t3 n a b)) := hw'
      rw [e] at t
      exact t
    · refine ft_leave (n - 1 - (i + 1)) (by omega) (by omega) (br_t (congrArg nI (?_ : ft_s2 f g n (n - 1 - (i + 1)) = f)) (nm_r (nI_1 i) hw'))
      exact if_pos (by omega)
end
end
section
/-! the law's first half -/
def ft_mb (n k : Nat) : Nat := if k < n then n + 1 else n + 2
section
variable {post : Int32 → St0 → Prop} {mc ms kc ks : Nat} {f g n a b : Nat}
theorem ft_455 {z : Int32} (hn : 2 ≤ n) (hn7 : n ≤ 7) (hf : f < 8) (hg : g < 8) (hne : ¬ nI f = nI g) (ha1 : 1 ≤ a) (ha : a ≤ 100) (hb1 : 1 ≤ b) (hb : b ≤ 100) (H : post 1 ()) :
    wL_lawOf_455 post mc ms (nI f) (nI g) (nI n) (nI a) (nI b) z z kc ks (nI (n - 1)) (nI 2) (nI (n + 2)) (ft_N (ft_s2 f g n)) (ft_F f g n (n + 2)) (ft_N (ft_ap n (n + 2))) (ft_N (ft_ch n (n + 2))) (ft_N (ft_si n (n + 2))) (ft_N (ft_o2 n a b)) (ft_N (ft_t2 n a b)) := by
  have PF : ft_path f g n (n + 2) (n - 1) (ft_s2 f g n) (fun k => k) := ft_pathF (by omega) hn7 (fun k hk => if_pos (by omega))
  unfold wL_lawOf_455
  refine br_t rfl (ft_sampleLo (by decide) (br_t rfl (ft_sampleHi (by decide) (by decide) (br_t rfl ?_))))
  refine ft_sample (f := f) (g := g) (n := n) (d := n - 1) (s := 2) (st := ft_s2 f g n) (o := ft_o2 n a b) (t := ft_t2 n a b) 100 (fun k => k) (fun _ => n + 2) (fun k i => if i ≤ k then ft_t2 n a b i + 100 else ft_t2 n a b i) (ft_o3 n a b) (ft_t3 n a b) hn (by omega) (by omega) (by omega) (by omega) rfl rfl rfl (fun k hk => ⟨show k < n + 2 by omega, show n + 2 ≤ 300 by omega⟩) (fun k hk => Or.inl ⟨PF.2.2.2 k hk, rfl⟩) (fun i => ?_) (fun k hk i => ?_) (fun i => ?_) (fun i => ?_) (br_t rfl ?_)
  · try dsimp only
    (repeat' split) <;> omega
  · try dsimp only
    (repeat' split) <;> omega
  · unfold ft_t3 ft_t2
    (repeat' split) <;> omega
  · unfold ft_o3 ft_o2
    try dsimp only
    (repeat' split) <;> omega
  refine ft_own (fun k => k) PF (by omega) (br_t ?_ ?_)
  · refine congrArg nI (?_ : ft_o3 n a b (n - 1) = 100)
    exact if_pos (by omega)
  refine ft_3excF hn hn7 hf hne (br_t (nI_add a 100).symm ?_)
  refine ft_3paths1 hn hn7 ha1 ha hb1 hb (br_t (nI_1 n).symm ?_)
  exact ft_535 hn hn7 hf hg hne ha1 ha hb1 hb H
theorem ft_288 {z : Int32} (hn : 2 ≤ n) (hn7 : n ≤ 7) (hf : f < 8) (hg : g < 8) (hne : ¬ nI f = nI g) (ha1 : 1 ≤ a) (ha : a ≤ 100) (hb1 : 1 ≤ b) (hb : b ≤ 100) (H : post 1 ()) :
    wL_lawOf_288 post mc ms (nI f) (nI g) (nI n) (nI a) (nI b) z z kc ks (nI n) (nI 2) (nI (n + 2)) (ft_N (ft_s2 f g n)) (ft_F f g n (n + 2)) (ft_N (ft_ap n (n + 2))) (ft_N (ft_ch n (n + 2))) (ft_N (ft_si n (n + 2))) (ft_N (ft_o2 n a b)) (ft_N (ft_t2 n a b)) := by
  have PF : ft_path f g n (n + 2) (n - 1) (ft_s2 f g n) (fun k => k) := ft_pathF (by omega) hn7 (fun k hk => if_pos (by omega))
  have n1 : nI n - 1 = nI (n - 1) := pk_sub (a := n) (b := 1) (by omega)
  have fg : f ≠ g := fun e => hne (congrArg nI e)
  unfold wL_lawOf_288
  rw [nI_add, nI_1 (a + b), n1]
  refine br_t rfl ?_
  refine ft_2paths1 hn hn7 ha1 ha hb1 hb (br_t (nI_1 n).symm ?_)
  refine ft_2deep1 hn hn7 ha1 ha hb1 hb (br_t rfl ?_)
  refine ft_2pathsAB hn hn7 ha1 ha hb1 hb (br_t rfl ?_)
  refine ft_2deepAB hn hn7 ha1 ha hb1 hb (br_t rfl ?_)
  refine ft_2pathsNo hn hn7 ha1 ha hb1 hb (br_t rfl ?_)
  refine ft_2deepNo hn hn7 ha1 ha hb1 hb (br_t rfl ?_)
  refine ft_leave (f := f) (g := g) (n := n) (s := 2) (m := n + 2) (st := ft_s2 f g n) (o := ft_o2 n a b) (t := ft_t2 n a b) (n - 1) (by omega) (by omega) (br_t (congrArg nI (?_ : ft_s2 f g n (n - 1) = g)) ?_)
  · unfold ft_s2
    rw [if_neg (by omega), if_pos (by omega)]
  refine ft_total (fun k => k) PF (by omega) (br_t (congrArg nI (?_ : ft_t2 n a b (n - 1) = a + b)) ?_)
  · exact if_pos (by omega)
  refine ft_own (fun k => k) PF (by omega) (br_t (congrArg nI (?_ : ft_o2 n a b (n - 1) = 0)) ?_)
  · unfold ft_o2
    rw [if_neg (by omega), if_neg (by omega)]
  refine ft_hot (fun k => k) PF (by omega) (by omega) ⟨3, ?_⟩
  rw [show ft_ch n (n + 2) (n - 1) = n + 1 by unfold ft_ch; (repeat' split) <;> omega]
  refine ft_hFirst (by omega) (by omega) ?_
  have es : ft_si n (n + 2) (n + 1) = n := by
    unfold ft_si
    (repeat' split) <;> omega
  have es2 : ft_si n (n + 2) n = 0 := by
    unfold ft_si
    (repeat' split) <;> omega
  have et1 : ft_t2 n a b (n + 1) = b := by
    unfold ft_t2
    (repeat' split) <;> omega
  have et2 : ft_t2 n a b n = a := by
    unfold ft_t2
    (repeat' split) <;> omega
  have ef1 : ft_fn f g n (n + 1) = g := ft_fnG (by omega)
  have ef2 : ft_fn f g n n = f := ft_fnL (by omega)
  have Z : ∀ z : Int32, wL_lawOf_455 post mc ms (nI f) (nI g) (nI n) (nI a) (nI b) z z kc ks (nI (n - 1)) (nI 2) (nI (n + 2)) (ft_N (ft_s2 f g n)) (ft_F f g n (n + 2)) (ft_N (ft_ap n (n + 2))) (ft_N (ft_ch n (n + 2))) (ft_N (ft_si n (n + 2))) (ft_N (ft_o2 n a b)) (ft_N (ft_t2 n a b)) := fun z => ft_455 hn hn7 hf hg hne ha1 ha hb1 hb H
  rw [es]
  refine ft_hNext hf hg (by omega) (ft_bt2 ha hb) (by omega) (by omega) (by omega) (by omega) (fun h => ?_) (fun h => ?_)
  · rw [et1, et2, ef1, ef2] at h
    rw [es2]
    refine ft_hEnd (by omega) (by omega) (by omega) ?_
    rw [ef2]
    exact pk_le a b (fun x => pk_le b a (fun y => pk_le g f (fun q => absurd h (by omega)) (fun q => Z _)) (fun y => absurd h (by omega))) (fun x => Z _)
  · rw [et1, et2, ef1, ef2] at h
    rw [es2]
    refine ft_hEnd (by omega) (by omega) (by omega) ?_
    rw [ef1]
    exact pk_le a b (fun x => pk_le b a (fun y => pk_le g f (fun q => Z _) (fun q => absurd h (by omega))) (fun y => Z _)) (fun x => absurd h (by omega))
theorem ft_73 (hn : 2 ≤ n) (hn7 : n ≤ 7) (hf : f < 8) (hg : g < 8) (hne : ¬ nI f = nI g) (ha1 : 1 ≤ a) (ha : a ≤ 100) (hb1 : 1 ≤ b) (hb : b ≤ 100) (H : post 1 ()) :
    ∃ fu, wL_lawOf_73 post mc ms (nI f) (nI g) (nI n) (nI a) (nI b) kc ks fu 0 (nI 0) (nI 0) (nI 1) (ft_N (ft_s1 f 0)) (ft_F f g n 1) (ft_N (ft_ap n 1)) (ft_N (ft_ch n 1)) (ft_N (ft_si n 1)) (ft_N (fun _ => 0)) (ft_N (fun _ => 0)) := by
  have L : ∃ fu, wL_lawOf_73 post mc ms (nI f) (nI g) (nI n) (nI a) (nI b) kc ks fu (nI 0) (nI (min 0 n)) (nI 0) (nI 1) (ft_N (ft_s1 f (min 0 n))) (ft_F f g n 1) (ft_N (ft_ap n 1)) (ft_N (ft_ch n 1)) (ft_N (ft_si n 1)) (ft_N (fun _ => 0)) (ft_N (fun _ => 0)) := by
    refine pk_loop (σ := Unit) (fun k i _ => wL_lawOf_73 post mc ms (nI f) (nI g) (nI n) (nI a) (nI b) kc ks k (nI i) (nI (min i n)) (nI 0) (nI 1) (ft_N (ft_s1 f (min i n))) (ft_F f g n 1) (ft_N (ft_ap n 1)) (ft_N (ft_ch n 1)) (ft_N (ft_si n 1)) (ft_N (fun _ => 0)) (ft_N (fun _ => 0))) (fun _ _ => True) 8 0 () (by omega) trivial (fun k _ _ => ?_) (fun k i _ hi _ hw => ?_)
    · show wL_lawOf_73 post mc ms (nI f) (nI g) (nI n) (nI a) (nI b) kc ks (k + 1) (nI 8) (nI (min 8 n)) (nI 0) (nI 1) (ft_N (ft_s1 f (min 8 n))) (ft_F f g n 1) (ft_N (ft_ap n 1)) (ft_N (ft_ch n 1)) (ft_N (ft_si n 1)) (ft_N (fun _ => 0)) (ft_N (fun _ => 0))
      rw [show min 8 n = n by omega]
      have PB := ft_pathB (f := f) (g := g) hn hn7
      refine pk_le 8 8 (fun _ => ?_) (fun z => absurd z (by omega))
      refine ft_sample (f := f) (g := g) (n := n) (d := n) (s := 0) (st := ft_s1 f n) (o := fun _ => 0) (t := fun _ => 0) a (fun k => k) (fun k => k + 1) (fun k i => if i ≤ k then a else 0) (ft_o1 n a) (ft_t1 n a) hn (by omega) (by omega) ha1 ha rfl rfl rfl (fun k hk => ⟨show k < k + 1 by omega, show k + 1 ≤ 300 by omega⟩) (fun k hk => Or.inr ⟨⟨ft_pa1 (show k + 1 ≤ n by omega), ?_, Or.inl ?_⟩, rfl, rfl⟩) (fun i => ?_) (fun k hk i => ?_) (fun i => rfl) (fun i => ?_) (br_t rfl ?_)
      · rw [show ft_s1 f n k = f from if_pos hk]
        exact ft_fnL (show k + 1 ≤ n by omega)
      · show ft_ch n (k + 1) k = 0
        unfold ft_ch
        (repeat' split) <;> omega
      · try dsimp only
        (repeat' split) <;> omega
      · try dsimp only
        (repeat' split) <;> omega
      · unfold ft_o1
        try dsimp only
        (repeat' split) <;> omega
      refine ft_leave (f := f) (g := g) (n := n) (s := 1) (m := n + 1) (st := ft_s1 f n) (o := ft_o1 n a) (t := ft_t1 n a) (n - 1) (by omega) (by omega) (br_t (congrArg nI (?_ : ft_s1 f n (n - 1) = f)) ?_)
      · exact if_pos (by omega)
      refine ft_call (f := f) (g := g) (n := n) (d := n - 1) (s := 1) (m := n + 1) (st := ft_s1 f n) (st' := ft_s2 f g n) (o := ft_o1 n a) (t := ft_t1 n a) hg (by omega) (fun i => ?_) ?_
      · unfold ft_s1 ft_s2
        (repeat' split) <;> omega
      rw [show n - 1 + 1 = n by omega]
      refine br_t rfl ?_
      refine ft_sample (f := f) (g := g) (n := n) (d := n) (s := 1) (m := n + 1) (m' := n + 2) (st := ft_s2 f g n) (o := ft_o1 n a) (t := ft_t1 n a) b (ft_pb n) (ft_mb n) (fun k i => if i ≤ k ∧ i < n then a + b else if i ≤ n then a else if i = n + 1 ∧ n ≤ k then b else 0) (ft_o2 n a b) (ft_t2 n a b) hn (by omega) (by omega) hb1 hb (if_pos (by omega)) (if_pos (by omega)) (if_neg (by omega)) (fun k hk => ?_) (fun k hk => ?_) (fun i => ?_) (fun k hk i => ?_) (fun i => ?_) (fun i => ?_) ?_
      · unfold ft_pb ft_mb
        split <;> omega
      · have eM : ft_mb n k = n + 1 := if_pos hk
        have eP : ft_pb n k = k := if_pos hk
        rw [eM, eP]
        rcases Nat.lt_or_ge (k + 1) n with z | z
        · rw [show ft_pb n (k + 1) = k + 1 from if_pos z, show ft_mb n (k + 1) = n + 1 from if_pos z, show ft_s2 f g n k = f from if_pos z]
          refine Or.inl ⟨⟨by omega, by omega, ?_, ft_fnL (by omega)⟩, rfl⟩
          unfold ft_ch
          (repeat' split) <;> omega
        · have ek : k = n - 1 := by omega
          rw [show ft_pb n (k + 1) = n + 1 from if_neg (by omega), show ft_mb n (k + 1) = n + 2 from if_neg (by omega), show ft_s2 f g n k = g by unfold ft_s2; rw [if_neg (by omega), if_pos (by omega)]]
          have ec : ft_ch n (n + 1) k = n := by
            unfold ft_ch
            (repeat' split) <;> omega
          refine Or.inr ⟨⟨ft_pa2.trans ek.symm, ft_fnG (by omega), Or.inr ?_⟩, rfl, rfl⟩
          rw [ec]
          refine ⟨by omega, by omega, ?_, ?_⟩
          · rw [ft_fnL (by omega)]
            exact hne
          · unfold ft_si
            (repeat' split) <;> omega
      · unfold ft_t1
        try dsimp only
        (repeat' split) <;> omega
      · try dsimp only
        unfold ft_pb
        (repeat' split) <;> omega
      · unfold ft_t2
        try dsimp only
        (repeat' split) <;> omega
      · rw [show ft_pb n n = n + 1 from if_neg (by omega)]
        unfold ft_o2 ft_o1
        (repeat' split) <;> omega
      refine br_t rfl ?_
      refine ft_total (ft_pb n) PB (by omega) (br_t (congrArg nI (?_ : ft_t2 n a b (ft_pb n n) = b)) ?_)
      · rw [show ft_pb n n = n + 1 from if_neg (by omega)]
        unfold ft_t2
        rw [if_neg (by omega), if_neg (by omega), if_pos rfl]
      refine ft_own (ft_pb n) PB (by omega) (br_t (congrArg nI (?_ : ft_o2 n a b (ft_pb n n) = b)) ?_)
      · rw [show ft_pb n n = n + 1 from if_neg (by omega)]
        unfold ft_o2
        rw [if_neg (by omega), if_pos rfl]
      refine ft_hot (ft_pb n) PB (by omega) (by omega) ⟨1, ?_⟩
      rw [show ft_pb n n = n + 1 from if_neg (by omega), show ft_ch n (n + 2) (n + 1) = 0 by unfold ft_ch; (repeat' split) <;> omega]
      refine ft_hEnd0 (br_t rfl ?_)
      refine ft_2incF hn hn7 hf hne (br_t (nI_add a b).symm ?_)
      refine ft_2excF hn hn7 hf hne (br_t rfl ?_)
      refine ft_2incG hn hn7 hg hne (br_t rfl ?_)
      refine ft_2excG hn hn7 hg hne (br_t rfl ?_)
      refine ft_2edgeFG hn hn7 hf hg hne (br_t rfl ?_)
      refine ft_2edgeGF hn hn7 hf hg hne (br_t rfl ?_)
      refine ft_2edgeFF hn hn7 hf hne (pk_le n 2 (fun z => ?_) (fun z => ?_))
      · rw [show ft_t2 n a b 2 = a by unfold ft_t2; rw [if_neg (by omega), if_pos (by omega)]]
        exact ft_288 hn hn7 hf hg hne ha1 ha hb1 hb H
      · rw [show ft_t2 n a b 2 = a + b from if_pos (by omega), nI_add]
        exact ft_288 hn hn7 hf hg hne ha1 ha hb1 hb H
    · have t : wL_lawOf_73 post mc ms (nI f) (nI g) (nI n) (nI a) (nI b) kc ks k (nI (i + 1)) (nI (min (i + 1) n)) (nI 0) (nI 1) (ft_N (ft_s1 f (min (i + 1) n))) (ft_F f g n 1) (ft_N (ft_ap n 1)) (ft_N (ft_ch n 1)) (ft_N (ft_si n 1)) (ft_N (fun _ => 0)) (ft_N (fun _ => 0)) := hw () trivial
      refine pk_le 8 i (fun z => absurd z (by omega)) (fun _ => pk_le n i (fun z => nm_r (nI_1 i) ?_) (fun z => ?_))
      · rw [show min (i + 1) n = min i n by omega] at t
        exact t
      · rw [show min (i + 1) n = i + 1 by omega] at t
        rw [show min i n = i by omega]
        refine ft_call (st' := ft_s1 f (i + 1)) hf hi (fun j => ?_) (br_t (nI_1 i).symm (nm_r (nI_1 i) t))
        unfold ft_s1
        (repeat' split) <;> omega
  rw [Nat.zero_min] at L
  exact L
end
end
section
theorem ft_cell {post : Int32 → Prop} {L : Nat} {xs : Nat → Int32} (k : Nat) {x : Int32} (hx : x = nI k) (hL : L ≤ 5) (hk : k < 5) (H : ∀ r, post r) : wpL_cellAt post L xs () x := by
  subst hx
  unfold wpL_cellAt
  exact pk_le L k (fun _ => H _) (fun z => ⟨vp_in_nI z (by omega), H _⟩)
theorem ft_mask (x : Int32) {d : Nat} {D : Int32} (hD : D = nI d) (h0 : 0 < d) (hd : d < 1000) : ∃ r, r < d ∧ (x &&& 255) - (x &&& 255) / D * D = nI r := by
  obtain ⟨j, hj, e⟩ := pk_andE x (m := 255) 8 (by decide)
  refine ⟨j % d, Nat.mod_lt _ h0, ?_⟩
  rw [e, hD]
  exact pk_rem (Nat.lt_of_lt_of_le hj (by decide)) h0 (by omega)
theorem ft_ini {post : St2 → Prop} {f g n : Nat} (hn : 2 ≤ n) (H : post (ft_St f g n 0 0 1 (ft_s1 f 0) (fun _ => 0) (fun _ => 0))) : wpX_init post 7 1934 (0, 0, 0) := by
  have e2 : upd (fun _ => 0) 0 (-1) = ft_F f g n 1 := by
    funext i
    show (if i = 0 then (-1 : Int32) else 0) = if i = 0 then (-1 : Int32) else nI (if i < 1 then ft_fn f g n i else 0)
    by_cases z : i = 0
    · rw [if_pos z, if_pos z]
    · rw [if_neg z, if_neg z, if_neg (by omega)]
      rfl
  have e1 : (fun _ => 0 : Nat → Int32) = ft_N (ft_s1 f 0) := by
    funext i
    exact congrArg nI (if_neg (by omega) : ft_s1 f 0 i = 0).symm
  have e3 : (fun _ => 0 : Nat → Int32) = ft_N (ft_ap n 1) := by
    funext i
    refine congrArg nI (?_ : 0 = ft_ap n 1 i)
    unfold ft_ap ft_pa
    (repeat' split) <;> omega
  have e4 : (fun _ => 0 : Nat → Int32) = ft_N (ft_ch n 1) := by
    funext i
    refine congrArg nI (?_ : 0 = ft_ch n 1 i)
    unfold ft_ch
    (repeat' split) <;> omega
  have e5 : (fun _ => 0 : Nat → Int32) = ft_N (ft_si n 1) := by
    funext i
    refine congrArg nI (?_ : 0 = ft_si n 1 i)
    unfold ft_si
    (repeat' split) <;> omega
  unfold wpX_init
  dsimp only
  refine ⟨by omega, by omega, by omega, by omega, by omega, by omega, by omega, by omega, by omega, by omega, by omega, by omega, by omega, by omega, nm_r e2 ?_⟩
  have H' := H
  rw [ft_St, ← e1, ← e3, ← e4, ← e5] at H'
  exact H'
theorem i_vc (xs : Nat → Int32) (L : Nat) (hL : L ≤ 5) : wpL_law (fun r => r = 1) L xs := by
  unfold wpL_law
  refine ft_cell 0 rfl hL (by omega) (fun p0 => ft_cell 1 rfl hL (by omega) (fun p1 => ft_cell 2 rfl hL (by omega) (fun p2 => ft_cell 3 rfl hL (by omega) (fun p3 => ft_cell 4 rfl hL (by omega) (fun p4 => ⟨992, 15856, by omega, by omega, ?_⟩)))))
  obtain ⟨f, hf, ef⟩ := pk_andE p0 (m := 7) 3 (by decide)
  obtain ⟨r1, h1, e1⟩ := ft_mask p1 (D := 7) (d := 7) rfl (by omega) (by omega)
  obtain ⟨r2, h2, e2⟩ := ft_mask p2 (D := 6) (d := 6) rfl (by omega) (by omega)
  obtain ⟨r3, h3, e3⟩ := ft_mask p3 (D := 100) (d := 100) rfl (by omega) (by omega)
  obtain ⟨r4, h4, e4⟩ := ft_mask p4 (D := 100) (d := 100) rfl (by omega) (by omega)
  have hf8 : f < 8 := hf
  have eg : ((nI f + 1) + nI r1) &&& 7 = nI ((f + 1 + r1) % 8) := by
    rw [nI_1, nI_add]
    exact pk_andN (n := f + 1 + r1) (by omega) (m := 7) 3 (by decide)
  have hne : ¬ nI f = nI ((f + 1 + r1) % 8) := by
    rw [nI_eq (by omega) (by omega)]
    omega
  unfold wpL_lawOf
  refine ⟨by omega, by omega, 7, 1934, by omega, by omega, ft_ini (f := f) (g := (f + 1 + r1) % 8) (n := 2 + r2) (by omega) ?_⟩
  refine nm_r ef ⟨by decide, nm_r (e' := nI ((f + 1 + r1) % 8)) (by rw [e1]; exact eg) ⟨by decide, nm_r (e' := nI (2 + r2)) (by rw [e2]; exact nI_add 2 r2) ⟨by decide, nm_r (e' := nI (1 + r3)) (by rw [e3]; exact nI_add 1 r3) ⟨by decide, nm_r (e' := nI (1 + r4)) (by rw [e4]; exact nI_add 1 r4) ?_⟩⟩⟩⟩
  exact ft_73 (f := f) (g := (f + 1 + r1) % 8) (n := 2 + r2) (a := 1 + r3) (b := 1 + r4) (by omega) (by omega) hf8 (by omega) hne (by omega) (by omega) (by omega) (by omega) rfl
end
