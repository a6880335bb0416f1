section
/-! ===== boxes: f to t in s, all of d and all of p ===== -/
def ra_b (x : Nat × Nat) : Int32 := nI (x.1 * 16384 + x.2 * 1024 + 61)
def ra_ok (x : Nat × Nat) : Prop := x.1 ≤ x.2 ∧ x.2 ≤ 15
theorem ra_tfS : ∀ f, f < 16 → ∀ t, t < 16 → (nI (f * 16384 + t * 1024 + 61) >>> ((14 : Int32) &&& 31)) &&& 15 = nI f := by decide +kernel
theorem ra_ttS : ∀ f, f < 16 → ∀ t, t < 16 → (nI (f * 16384 + t * 1024 + 61) >>> ((10 : Int32) &&& 31)) &&& 15 = nI t := by decide +kernel
theorem ra_tfD : ∀ f, f < 16 → ∀ t, t < 16 → (nI (f * 16384 + t * 1024 + 61) >>> ((6 : Int32) &&& 31)) &&& 15 = 0 := by decide +kernel
theorem ra_ttD : ∀ f, f < 16 → ∀ t, t < 16 → (nI (f * 16384 + t * 1024 + 61) >>> ((2 : Int32) &&& 31)) &&& 15 = 15 := by decide +kernel
theorem ra_tfP : ∀ f, f < 16 → ∀ t, t < 16 → (nI (f * 16384 + t * 1024 + 61) >>> ((1 : Int32) &&& 31)) &&& 1 = 0 := by decide +kernel
theorem ra_ttP : ∀ f, f < 16 → ∀ t, t < 16 → nI (f * 16384 + t * 1024 + 61) &&& 1 = 1 := by decide +kernel
theorem ra_tm : ∀ f, f < 16 → ∀ t, t < 16 → nI (f * 16384 + t * 1024 + 61) &&& 1023 = 61 := by decide +kernel
theorem ra_tw : ∀ f, f < 16 → ∀ t, t < 16 → ((61 : Int32) ||| (nI f <<< ((14 : Int32) &&& 31))) ||| (nI t <<< ((10 : Int32) &&& 31)) = nI (f * 16384 + t * 1024 + 61) := by decide +kernel
theorem ra_twD : ∀ f, f < 16 → ∀ t, t < 16 → ((nI (f * 16384 + t * 1024 + 61) &&& (-1021)) ||| ((0 : Int32) <<< ((6 : Int32) &&& 31))) ||| ((15 : Int32) <<< ((2 : Int32) &&& 31)) = nI (f * 16384 + t * 1024 + 61) := by decide +kernel
theorem ra_tdr : ∀ f, f < 16 → ∀ t, t < 16 → (((15421 : Int32) &&& (((255 : Int32) <<< ((10 : Int32) &&& 31)) ^^^ (-1))) ||| (nI f <<< (((10 : Int32) + 4) &&& 31))) ||| (nI t <<< ((10 : Int32) &&& 31)) = nI (f * 16384 + t * 1024 + 61) := by decide +kernel
theorem ra_tv : ∀ f, f < 16 → ∀ t, t < 16 → f ≤ t → (((nI t - nI f) + 1) * (((15 : Int32) - 0) + 1)) * (((1 : Int32) - 0) + 1) = nI (32 * (t + 1 - f)) := by decide +kernel
theorem ra_l1 {x : Nat × Nat} (h : ra_ok x) : x.1 < 16 := Nat.lt_succ_of_le (Nat.le_trans h.1 h.2)
theorem ra_l2 {x : Nat × Nat} (h : ra_ok x) : x.2 < 16 := Nat.lt_succ_of_le h.2
/-! ===== the methods that read one box ===== -/
theorem ra_fS {post : Int32 → Prop} {u : St2} {x : Nat × Nat} (hx : ra_ok x) (h : post (nI x.1)) : wpX_fromS post u (ra_b x) := by
  obtain ⟨_, _, _, _, _, _, _, _, _, _, _, _⟩ := u
  have e : (ra_b x >>> ((14 : Int32) &&& 31)) &&& 15 = nI x.1 := ra_tfS x.1 (ra_l1 hx) x.2 (ra_l2 hx)
  show post ((ra_b x >>> ((14 : Int32) &&& 31)) &&& 15)
  rw [e]
  exact h
theorem ra_tS {post : Int32 → Prop} {u : St2} {x : Nat × Nat} (hx : ra_ok x) (h : post (nI x.2)) : wpX_toS post u (ra_b x) := by
  obtain ⟨_, _, _, _, _, _, _, _, _, _, _, _⟩ := u
  have e : (ra_b x >>> ((10 : Int32) &&& 31)) &&& 15 = nI x.2 := ra_ttS x.1 (ra_l1 hx) x.2 (ra_l2 hx)
  show post ((ra_b x >>> ((10 : Int32) &&& 31)) &&& 15)
  rw [e]
  exact h
theorem ra_fD {post : Int32 → Prop} {u : St2} {x : Nat × Nat} (hx : ra_ok x) (h : post 0) : wpX_fromD post u (ra_b x) := by
  obtain ⟨_, _, _, _, _, _, _, _, _, _, _, _⟩ := u
  have e : (ra_b x >>> ((6 : Int32) &&& 31)) &&& 15 = 0 := ra_tfD x.1 (ra_l1 hx) x.2 (ra_l2 hx)
  show post ((ra_b x >>> ((6 : Int32) &&& 31)) &&& 15)
  rw [e]
  exact h
theorem ra_tD {post : Int32 → Prop} {u : St2} {x : Nat × Nat} (hx : ra_ok x) (h : post 15) : wpX_toD post u (ra_b x) := by
  obtain ⟨_, _, _, _, _, _, _, _, _, _, _, _⟩ := u
  have e : (ra_b x >>> ((2 : Int32) &&& 31)) &&& 15 = 15 := ra_ttD x.1 (ra_l1 hx) x.2 (ra_l2 hx)
  show post ((ra_b x >>> ((2 : Int32) &&& 31)) &&& 15)
  rw [e]
  exact h
theorem ra_fP {post : Int32 → Prop} {u : St2} {x : Nat × Nat} (hx : ra_ok x) (h : post 0) : wpX_fromP post u (ra_b x) := by
  obtain ⟨_, _, _, _, _, _, _, _, _, _, _, _⟩ := u
  have e : (ra_b x >>> ((1 : Int32) &&& 31)) &&& 1 = 0 := ra_tfP x.1 (ra_l1 hx) x.2 (ra_l2 hx)
  show post ((ra_b x >>> ((1 : Int32) &&& 31)) &&& 1)
  rw [e]
  exact h
theorem ra_tP {post : Int32 → Prop} {u : St2} {x : Nat × Nat} (hx : ra_ok x) (h : post 1) : wpX_toP post u (ra_b x) := by
  obtain ⟨_, _, _, _, _, _, _, _, _, _, _, _⟩ := u
  have e : ra_b x &&& 1 = 1 := ra_ttP x.1 (ra_l1 hx) x.2 (ra_l2 hx)
  show post (ra_b x &&& 1)
  rw [e]
  exact h
theorem ra_wS {post : Int32 → Prop} {u : St2} {x : Nat × Nat} {gi hi : Int32} (g h : Nat) (hx : ra_ok x) (hg : g < 16) (hh : h < 16) (eg : gi = nI g) (eh : hi = nI h) (H : post (ra_b (g, h))) : wpX_withS post u (ra_b x) gi hi := by
  obtain ⟨_, _, _, _, _, _, _, _, _, _, _, _⟩ := u
  subst eg eh
  have e : ra_b x &&& 1023 = 61 := ra_tm x.1 (ra_l1 hx) x.2 (ra_l2 hx)
  have e2 : ((61 : Int32) ||| (nI g <<< ((14 : Int32) &&& 31))) ||| (nI h <<< ((10 : Int32) &&& 31)) = ra_b (g, h) := ra_tw g hg h hh
  show post (((ra_b x &&& 1023) ||| (nI g <<< ((14 : Int32) &&& 31))) ||| (nI h <<< ((10 : Int32) &&& 31)))
  rw [e, e2]
  exact H
theorem ra_wD {post : Int32 → Prop} {u : St2} {x : Nat × Nat} (hx : ra_ok x) (H : post (ra_b x)) : wpX_withD post u (ra_b x) 0 15 := by
  obtain ⟨_, _, _, _, _, _, _, _, _, _, _, _⟩ := u
  have e : ((ra_b x &&& (-1021)) ||| ((0 : Int32) <<< ((6 : Int32) &&& 31))) ||| ((15 : Int32) <<< ((2 : Int32) &&& 31)) = ra_b x := ra_twD x.1 (ra_l1 hx) x.2 (ra_l2 hx)
  show post (((ra_b x &&& (-1021)) ||| ((0 : Int32) <<< ((6 : Int32) &&& 31))) ||| ((15 : Int32) <<< ((2 : Int32) &&& 31)))
  rw [e]
  exact H
theorem ra_vol {post : Int32 → Prop} {u : St2} {x : Nat × Nat} (hx : ra_ok x) (h : post (nI (32 * (x.2 + 1 - x.1)))) : wpX_volume post u (ra_b x) := by
  obtain ⟨_, _, _, _, _, _, _, _, _, _, _, _⟩ := u
  unfold wpX_volume
  dsimp only
  refine ra_tS hx (ra_fS hx (fun x2 e2 => ra_tD hx (ra_fD hx (fun x3 e3 => ra_tP hx (ra_fP hx (fun x4 e4 => ?_))))))
  rw [e2, e3, e4, ra_tv x.1 (ra_l1 hx) x.2 (ra_l2 hx) hx.1]
  exact h
theorem ra_meets {post : Int32 → Prop} {u : St2} {x c : Nat × Nat} (hx : ra_ok x) (hc : ra_ok c) (h1 : x.1 ≤ c.2 ∧ c.1 ≤ x.2 → post 1) (h0 : ¬ (x.1 ≤ c.2 ∧ c.1 ≤ x.2) → post 0) : wpX_meets post u (ra_b x) (ra_b c) := by
  obtain ⟨_, _, _, _, _, _, _, _, _, _, _, _⟩ := u
  have i1 := ra_l1 hx
  have i2 := ra_l2 hx
  have i3 := ra_l1 hc
  have i4 := ra_l2 hc
  unfold wpX_meets
  dsimp only
  refine ra_fS hx (ra_tS hc ?_)
  refine pk_lt c.2 x.1 (fun z => h0 (by omega)) (fun z => ra_fS hc (ra_tS hx ?_))
  refine pk_le c.1 x.2 (fun z' => ra_fD hx (ra_tD hc ?_)) (fun z' => h0 (by omega))
  refine br_f (by decide) (ra_fD hc (ra_tD hx ?_))
  refine br_t (by decide) (ra_fP hx (ra_tP hc ?_))
  refine br_f (by decide) (ra_fP hc (ra_tP hx ?_))
  exact br_f (by decide) (h1 ⟨z, z'⟩)
/-- within, where it is so -/
theorem ra_within {post : Int32 → Prop} {u : St2} {x c : Nat × Nat} (hx : ra_ok x) (hc : ra_ok c) (hw : c.1 ≤ x.1 ∧ x.2 ≤ c.2) (h1 : post 1) : wpX_within post u (ra_b x) (ra_b c) := by
  obtain ⟨_, _, _, _, _, _, _, _, _, _, _, _⟩ := u
  have i1 := ra_l1 hx
  have i2 := ra_l2 hx
  have i3 := ra_l1 hc
  have i4 := ra_l2 hc
  obtain ⟨w1, w2⟩ := hw
  unfold wpX_within
  dsimp only
  refine ra_fS hx (ra_fS hc ?_)
  refine pk_lt x.1 c.1 (fun z => absurd z (by omega)) (fun z => ra_tS hx (ra_tS hc ?_))
  refine pk_le x.2 c.2 (fun z' => ra_fD hx (ra_fD hc ?_)) (fun z' => absurd z' (by omega))
  refine br_f (by decide) (ra_tD hx (ra_tD hc ?_))
  refine br_t (by decide) (ra_fP hx (ra_fP hc ?_))
  refine br_f (by decide) (ra_tP hx (ra_tP hc ?_))
  exact br_f (by decide) h1
/-! ===== an array holds a list of boxes, from place k on ===== -/
def ra_L (a : Nat → Int32) : Nat → List (Nat × Nat) → Prop
  | _, [] => True
  | k, x :: l => a k = ra_b x ∧ ra_ok x ∧ ra_L a (k + 1) l
theorem ra_Lk {a a' : Nat → Int32} : ∀ (l : List (Nat × Nat)) (k : Nat), ra_L a k l → (∀ j, k ≤ j → j < k + l.length → a' j = a j) → ra_L a' k l := by
  intro l
  induction l with
  | nil => exact fun _ _ _ => trivial
  | cons x l ih =>
    intro k h e
    have hl : (x :: l).length = l.length + 1 := rfl
    exact ⟨by rw [e k (by omega) (by omega)]; exact h.1, h.2.1, ih (k + 1) h.2.2 (fun j h1 h2 => e j (by omega) (by omega))⟩
theorem ra_La {a : Nat → Int32} {x : Nat × Nat} (hx : ra_ok x) : ∀ (l : List (Nat × Nat)) (k : Nat), ra_L a k l → a (k + l.length) = ra_b x → ra_L a k (l ++ [x]) := by
  intro l
  induction l with
  | nil => exact fun k _ e => ⟨e, hx, trivial⟩
  | cons y l ih =>
    intro k h e
    have hl : (y :: l).length = l.length + 1 := rfl
    refine ⟨h.1, h.2.1, ih (k + 1) h.2.2 ?_⟩
    rw [← e, hl]
    congr 1
    omega
theorem ra_push {a : Nat → Int32} {l : List (Nat × Nat)} {x : Nat × Nat} {n : Nat} {v : Int32} (h : ra_L a 0 l) (hx : ra_ok x) (hn : n = l.length) (hv : v = ra_b x) : ra_L (upd a n v) 0 (l ++ [x]) := by
  subst hn hv
  refine ra_La hx l 0 (ra_Lk l 0 h (fun j h1 h2 => pk_un (by omega))) ?_
  rw [Nat.zero_add]
  exact pk_us
theorem ra_add {post : St2 → Prop} {dr rc wc ac sc : Int32} {a1 a2 a3 a4 a5 a6 : Nat → Int32} {n : Nat} {v : Int32} (hn : n < 512) (h : post (dr, rc, wc, nI (n + 1), ac, sc, a1, a2, a3, upd a4 n v, a5, a6)) : wpX_addPiece post (dr, rc, wc, nI n, ac, sc, a1, a2, a3, a4, a5, a6) v :=
  ⟨pk_in n 512 hn, nm_r (e' := upd a4 n v) (by rw [nI_clamp (by omega)]) (nm_r (nI_1 n) h)⟩
end
section
/-! ===== what is left of a box, of a list of boxes, when a cut is taken out ===== -/
def ra_lo (c x : Nat × Nat) : List (Nat × Nat) := if x.1 < c.1 then [(x.1, c.1 - 1)] else []
def ra_hi (c x : Nat × Nat) : List (Nat × Nat) := if c.2 < x.2 then [(c.2 + 1, x.2)] else []
def ra_pcs (c x : Nat × Nat) : List (Nat × Nat) := ra_lo c x ++ ra_hi c x
def ra_cut (c x : Nat × Nat) : List (Nat × Nat) := if x.1 ≤ c.2 ∧ c.1 ≤ x.2 then ra_pcs c x else [x]
def ra_sub (c : Nat × Nat) : List (Nat × Nat) → List (Nat × Nat)
  | [] => []
  | x :: w => ra_cut c x ++ ra_sub c w
theorem ra_lo_len (c x : Nat × Nat) : (ra_lo c x).length ≤ 1 := by
  unfold ra_lo
  split <;> simp
theorem ra_hi_len (c x : Nat × Nat) : (ra_hi c x).length ≤ 1 := by
  unfold ra_hi
  split <;> simp
theorem ra_pcs_len (c x : Nat × Nat) : (ra_pcs c x).length ≤ 2 := by
  have h1 := ra_lo_len c x
  have h2 := ra_hi_len c x
  unfold ra_pcs
  rw [List.length_append]
  omega
theorem ra_cut_len (c x : Nat × Nat) : (ra_cut c x).length ≤ 2 := by
  have h := ra_pcs_len c x
  unfold ra_cut
  split
  · exact h
  · simp
theorem ra_sub_len (c : Nat × Nat) (w : List (Nat × Nat)) : (ra_sub c w).length ≤ 2 * w.length := by
  induction w with
  | nil => exact Nat.le_refl 0
  | cons x w ih =>
    have h := ra_cut_len c x
    have hl : (x :: w).length = w.length + 1 := rfl
    show (ra_cut c x ++ ra_sub c w).length ≤ _
    rw [List.length_append]
    omega
/-! ===== carve ===== -/
theorem ra_c54 {post : Int32 → St2 → Prop} {dr rc wc ac sc : Int32} {a1 a2 a3 a4 a5 a6 : Nat → Int32} {x c : Nat × Nat} {g : Nat} {p : List (Nat × Nat)} (hx : ra_ok x) (hc : ra_ok c) (hg : g < 16) (hp : ra_L a4 0 p) (hn : p.length + 1 ≤ 512)
    (H : ∀ a4', ra_L a4' 0 (p ++ ra_hi c x) → post (ra_b (g, min x.2 c.2)) (dr, rc, wc, nI (p ++ ra_hi c x).length, ac, sc, a1, a2, a3, a4', a5, a6)) :
    wX_carveS_54 post (ra_b x) (nI g) (nI x.2) (nI c.2) dr rc wc (nI p.length) ac sc a1 a2 a3 a4 a5 a6 := by
  have i2 := ra_l2 hx
  have i4 := ra_l2 hc
  unfold wX_carveS_54
  refine pk_le x.2 c.2 (fun z => ?_) (fun z => ?_)
  · have e : ra_hi c x = [] := by
      unfold ra_hi
      rw [if_neg (by omega)]
    rw [e, List.append_nil, show min x.2 c.2 = x.2 by omega] at H
    exact ra_wS g x.2 hx hg i2 rfl rfl (H a4 hp)
  · have e : ra_hi c x = [(c.2 + 1, x.2)] := by
      unfold ra_hi
      rw [if_pos z]
    have el : (p ++ [(c.2 + 1, x.2)]).length = p.length + 1 := by simp
    rw [e, el, show min x.2 c.2 = c.2 by omega] at H
    refine ra_wS (c.2 + 1) x.2 hx (by omega) i2 (nI_1 c.2) rfl (ra_add (by omega) ?_)
    exact ra_wS g c.2 hx hg i4 rfl rfl (H _ (ra_push hp ⟨by show c.2 + 1 ≤ x.2; omega, hx.2⟩ rfl rfl))
theorem ra_carveS {post : Int32 → St2 → Prop} {dr rc wc ac sc : Int32} {a1 a2 a3 a4 a5 a6 : Nat → Int32} {x c : Nat × Nat} {p : List (Nat × Nat)} (hx : ra_ok x) (hc : ra_ok c) (hp : ra_L a4 0 p) (hn : p.length + 2 ≤ 512)
    (H : ∀ a4', ra_L a4' 0 (p ++ ra_pcs c x) → post (ra_b (max x.1 c.1, min x.2 c.2)) (dr, rc, wc, nI (p ++ ra_pcs c x).length, ac, sc, a1, a2, a3, a4', a5, a6)) :
    wpX_carveS post (dr, rc, wc, nI p.length, ac, sc, a1, a2, a3, a4, a5, a6) (ra_b x) (ra_b c) := by
  have i1 := ra_l1 hx
  have i2 := ra_l2 hx
  have i3 := ra_l1 hc
  have i4 := ra_l2 hc
  have hx2 := hx.1
  unfold wpX_carveS
  dsimp only
  refine ra_fS hx (ra_tS hx (ra_fS hc (ra_tS hc ?_)))
  refine pk_le c.1 x.1 (fun z => ?_) (fun z => ?_)
  · have e : ra_pcs c x = ra_hi c x := by
      unfold ra_pcs ra_lo
      rw [if_neg (by omega), List.nil_append]
    rw [e, show max x.1 c.1 = x.1 by omega] at H
    exact ra_c54 hx hc i1 hp (by omega) H
  · have e : ra_pcs c x = [(x.1, c.1 - 1)] ++ ra_hi c x := by
      unfold ra_pcs ra_lo
      rw [if_pos z]
    have el : (p ++ [(x.1, c.1 - 1)]).length = p.length + 1 := by simp
    rw [e, ← List.append_assoc, show max x.1 c.1 = c.1 by omega] at H
    refine ra_wS x.1 (c.1 - 1) hx i1 (by omega) rfl (pk_sub (b := 1) (by omega)) (ra_add (by omega) ?_)
    have t := ra_c54 (p := p ++ [(x.1, c.1 - 1)]) (a4 := upd a4 p.length (ra_b (x.1, c.1 - 1))) (post := post) (dr := dr) (rc := rc) (wc := wc) (ac := ac) (sc := sc) (a1 := a1) (a2 := a2) (a3 := a3) (a5 := a5) (a6 := a6) hx hc i3 (ra_push hp ⟨by show x.1 ≤ c.1 - 1; omega, by show c.1 - 1 ≤ 15; omega⟩ rfl rfl) (by rw [el]; omega) H
    rw [el] at t
    exact t
theorem ra_carveD {post : Int32 → St2 → Prop} {u : St2} {x c : Nat × Nat} (hx : ra_ok x) (hc : ra_ok c) (H : post (ra_b x) u) : wpX_carveD post u (ra_b x) (ra_b c) := by
  obtain ⟨dr, rc, wc, pc, ac, sc, a1, a2, a3, a4, a5, a6⟩ := u
  unfold wpX_carveD
  dsimp only
  refine ra_fD hx (ra_tD hx (ra_fD hc (ra_tD hc ?_)))
  refine br_t (by decide) ?_
  unfold wX_carveD_54
  refine br_t (by decide) ?_
  unfold wX_carveD_84
  exact ra_wD hx H
theorem ra_carve {post : St2 → Prop} {dr rc wc ac sc : Int32} {a1 a2 a3 a4 a5 a6 : Nat → Int32} {x c : Nat × Nat} {p : List (Nat × Nat)} (hx : ra_ok x) (hc : ra_ok c) (hm : x.1 ≤ c.2 ∧ c.1 ≤ x.2) (hp : ra_L a4 0 p) (hn : p.length + 2 ≤ 512)
    (H : ∀ a4', ra_L a4' 0 (p ++ ra_pcs c x) → post (dr, rc, wc, nI (p ++ ra_pcs c x).length, ac, sc, a1, a2, a3, a4', a5, a6)) :
    wpX_carve post (dr, rc, wc, nI p.length, ac, sc, a1, a2, a3, a4, a5, a6) (ra_b x) (ra_b c) := by
  have hx1 := hx.1
  have hx2 := hx.2
  have hc1 := hc.1
  have hy : ra_ok (max x.1 c.1, min x.2 c.2) := ⟨by show max x.1 c.1 ≤ min x.2 c.2; omega, by show min x.2 c.2 ≤ 15; omega⟩
  unfold wpX_carve
  dsimp only
  refine ra_carveS hx hc hp hn (fun a4' h' => ?_)
  refine ra_carveD hy hc ?_
  refine ra_fP hy (ra_fP hc ?_)
  refine br_t (by decide) ?_
  unfold wX_carve_35
  refine ra_tP hy (ra_tP hc ?_)
  exact br_t (by decide) (H a4' h')
/-! ===== subtract ===== -/
theorem ra_s61 {post : St2 → Prop} {dr rc wc ac sc : Int32} {a1 a2 a4 a5 a6 : Nat → Int32} {m : Nat} (hm : m ≤ 512) : ∀ (l d : List (Nat × Nat)) (k : Nat) (a3 : Nat → Int32), ra_L a4 k l → ra_L a3 0 d → k = d.length → k + l.length = m →
    (∀ a3', ra_L a3' 0 (d ++ l) → post (dr, rc, nI m, nI m, ac, sc, a1, a2, a3', a4, a5, a6)) → wX_subtract_61 post dr rc wc (nI m) ac sc (l.length + 1) (nI k) a1 a2 a3 a4 a5 a6 := by
  intro l
  induction l with
  | nil =>
    intro d k a3 _ hd hk hl H
    have hl' : k + 0 = m := hl
    rw [List.append_nil] at H
    exact pk_le m k (fun _ => H a3 hd) (fun z => absurd z (by omega))
  | cons x l ih =>
    intro d k a3 h4 hd hk hl H
    have hl' : k + (l.length + 1) = m := hl
    refine pk_le m k (fun z => absurd z (by omega)) (fun _ => ⟨pk_in k 512 (by omega), pk_in k 512 (by omega), ?_⟩)
    rw [nI_clamp (show k < 2 ^ 31 by omega)]
    refine nm_e (nm_r (nI_1 k) ?_)
    refine ih (d ++ [x]) (k + 1) _ h4.2.2 (ra_push hd h4.2.1 hk h4.1) (by simp; omega) (by omega) ?_
    rw [List.append_assoc]
    exact H
theorem ra_s7 {post : St2 → Prop} {dr rc ac sc : Int32} {a1 a2 a3 a5 a6 : Nat → Int32} {c : Nat × Nat} {m : Nat} (hc : ra_ok c) (hm : m ≤ 512) : ∀ (w p : List (Nat × Nat)) (k : Nat) (a4 : Nat → Int32), ra_L a3 k w → ra_L a4 0 p → k + w.length = m → p.length + 2 * w.length ≤ 512 →
    (∀ a4', ra_L a4' 0 (p ++ ra_sub c w) → ∃ fu, wX_subtract_61 post dr rc (nI m) (nI (p ++ ra_sub c w).length) ac sc fu 0 a1 a2 a3 a4' a5 a6) → wX_subtract_7 post (ra_b c) (w.length + 1) (nI k) dr rc (nI m) (nI p.length) ac sc a1 a2 a3 a4 a5 a6 := by
  intro w
  induction w with
  | nil =>
    intro p k a4 _ hp hl _ H
    have hl' : k + 0 = m := hl
    have e : ra_sub c [] = [] := rfl
    rw [e, List.append_nil] at H
    exact pk_le m k (fun _ => H a4 hp) (fun z => absurd z (by omega))
  | cons x w ih =>
    intro p k a4 h3 hp hl hn H
    have hl' : k + (w.length + 1) = m := hl
    have hn' : p.length + 2 * (w.length + 1) ≤ 512 := hn
    have e : ra_sub c (x :: w) = ra_cut c x ++ ra_sub c w := rfl
    rw [e, ← List.append_assoc] at H
    refine pk_le m k (fun z => absurd z (by omega)) (fun _ => ⟨pk_in k 512 (by omega), ?_⟩)
    rw [nI_clamp (show k < 2 ^ 31 by omega), h3.1]
    refine ra_meets h3.2.1 hc (fun z => br_f (by decide) ⟨pk_in k 512 (by omega), ?_⟩) (fun z => br_t rfl ⟨pk_in k 512 (by omega), ?_⟩)
    · have e2 : ra_cut c x = ra_pcs c x := by
        unfold ra_cut
        rw [if_pos z]
      rw [e2] at H
      have lp := ra_pcs_len c x
      refine ra_carve h3.2.1 hc z hp (by omega) (fun a4' h' => nm_r (nI_1 k) ?_)
      exact ih (p ++ ra_pcs c x) (k + 1) a4' h3.2.2 h' (by omega) (by rw [List.length_append]; omega) H
    · have e2 : ra_cut c x = [x] := by
        unfold ra_cut
        rw [if_neg z]
      rw [e2] at H
      have el : (p ++ [x]).length = p.length + 1 := by simp
      refine ra_add (by omega) (nm_r (nI_1 k) ?_)
      have t := ih (p ++ [x]) (k + 1) (upd a4 p.length (ra_b x)) h3.2.2 (ra_push hp h3.2.1 rfl rfl) (by omega) (by rw [el]; omega) H
      rw [el] at t
      exact t
theorem ra_subtract {post : St2 → Prop} {dr rc pc ac sc : Int32} {a1 a2 a3 a4 a5 a6 : Nat → Int32} {w : List (Nat × Nat)} {c : Nat × Nat} (hc : ra_ok c) (hw : ra_L a3 0 w) (hn : 2 * w.length ≤ 512)
    (H : ∀ pc' a3' a4', ra_L a3' 0 (ra_sub c w) → post (dr, rc, nI (ra_sub c w).length, pc', ac, sc, a1, a2, a3', a4', a5, a6)) :
    wpX_subtract post (dr, rc, nI w.length, pc, ac, sc, a1, a2, a3, a4, a5, a6) (ra_b c) := by
  have hs := ra_sub_len c w
  refine ⟨w.length + 1, ra_s7 hc (by omega) w [] 0 a4 hw trivial (by omega) (by simp; omega) (fun a4' h' => ?_)⟩
  rw [List.nil_append] at h'
  rw [List.nil_append]
  exact ⟨(ra_sub c w).length + 1, ra_s61 (by omega) (ra_sub c w) [] 0 a3 h' trivial rfl (by omega) (fun a3' h3 => H _ a3' a4' h3)⟩
end
section
/-! ===== cuts one after another; a rule's own boxes ===== -/
def ra_subs : List (Nat × Nat) → List (Nat × Nat) → List (Nat × Nat)
  | [], w => w
  | c :: l, w => ra_subs l (ra_sub c w)
theorem ra_subs_nil (l : List (Nat × Nat)) : ra_subs l [] = [] := by
  induction l with
  | nil => rfl
  | cons c l ih => exact ih
theorem ra_pow {a b k : Nat} (h : b * 2 ^ (k + 1) ≤ 512) (ha : a ≤ 2 * b) : a * 2 ^ k ≤ 512 := by
  have h1 : a * 2 ^ k ≤ 2 * b * 2 ^ k := Nat.mul_le_mul_right _ ha
  have h2 : b * 2 ^ (k + 1) = 2 * b * 2 ^ k := by
    rw [Nat.pow_succ, Nat.mul_comm (2 ^ k) 2, ← Nat.mul_assoc, Nat.mul_comm b 2]
  omega
theorem ra_pow0 {b k : Nat} (h : b * 2 ^ (k + 1) ≤ 512) : 2 * b ≤ 512 := by
  have h1 := ra_pow h (Nat.le_refl _)
  have h2 : 2 * b * 1 ≤ 2 * b * 2 ^ k := Nat.mul_le_mul_left _ Nat.one_le_two_pow
  omega
theorem ra_co12 {post : St2 → Prop} {dr rc ac sc : Int32} {a1 a2 a5 a6 : Nat → Int32} {m : Nat} (hm : m ≤ 10) : ∀ (l w : List (Nat × Nat)) (k : Nat) (pc : Int32) (a3 a4 : Nat → Int32), ra_L a1 k l → ra_L a3 0 w → k + l.length = m → w.length * 2 ^ l.length ≤ 512 →
    (∀ pc' a3' a4', ra_L a3' 0 (ra_subs l w) → post (dr, rc, nI (ra_subs l w).length, pc', ac, sc, a1, a2, a3', a4', a5, a6)) → wX_carveOwned_12 post (nI m) (l.length + 1) (nI k) dr rc (nI w.length) pc ac sc a1 a2 a3 a4 a5 a6 := by
  intro l
  induction l with
  | nil =>
    intro w k pc a3 a4 _ hw hl _ H
    have hl' : k + 0 = m := hl
    exact pk_le m k (fun _ => H pc a3 a4 hw) (fun z => absurd z (by omega))
  | cons c l ih =>
    intro w k pc a3 a4 h1 hw hl hn H
    have hl' : k + (l.length + 1) = m := hl
    have hn' : w.length * 2 ^ (l.length + 1) ≤ 512 := hn
    refine pk_le m k (fun z => absurd z (by omega)) (fun _ => ⟨pk_in k 10 (by omega), ?_⟩)
    rw [nI_clamp (show k < 2 ^ 31 by omega), h1.1]
    refine ra_subtract h1.2.1 hw (ra_pow0 hn') (fun pc' a3' a4' h' => nm_r (nI_1 k) ?_)
    exact ih (ra_sub c w) (k + 1) pc' a3' a4' h1.2.2 h' (by omega) (ra_pow hn' (ra_sub_len c w)) H
theorem ra_co {post : St2 → Prop} {dr rc wc pc ac sc : Int32} {a1 a2 a3 a4 a5 a6 : Nat → Int32} {i : Nat} (l : List (Nat × Nat)) (x : Nat × Nat) (hl : ra_L a1 0 l) (hx : ra_ok x) (ex : a1 i = ra_b x) (hi : i = l.length) (h9 : i ≤ 9)
    (H : ∀ pc' a3' a4', ra_L a3' 0 (ra_subs l [x]) → post (dr, rc, nI (ra_subs l [x]).length, pc', ac, sc, a1, a2, a3', a4', a5, a6)) :
    wpX_carveOwned post (dr, rc, wc, pc, ac, sc, a1, a2, a3, a4, a5, a6) (nI i) := by
  refine ⟨pk_in i 10 (by omega), ?_⟩
  rw [nI_clamp (show i < 2 ^ 31 by omega), ex]
  unfold wpX_startWork
  dsimp only
  refine nm_e ⟨l.length + 1, ?_⟩
  refine ra_co12 (by omega) l [x] 0 pc (upd a3 0 (ra_b x)) a4 hl ⟨pk_us, hx, trivial⟩ (by omega) ?_ H
  have h2 : 2 ^ l.length ≤ 2 ^ 9 := Nat.pow_le_pow_right (by omega) (by omega)
  have h3 : ([x] : List (Nat × Nat)).length * 2 ^ l.length = 2 ^ l.length := Nat.one_mul _
  rw [h3]
  exact h2
/-! ===== gatherAllowed ===== -/
def ra_g (act : Nat) (w : List (Nat × Nat)) : List (Nat × Nat) := if act = 0 then [] else w
theorem ra_ga34 {post : St2 → Prop} {J7 : Int32 → Int32 → Int32 → Int32 → Int32 → Int32 → Int32 → (Nat → Int32) → (Nat → Int32) → (Nat → Int32) → (Nat → Int32) → (Nat → Int32) → (Nat → Int32) → Prop} {dr rc pc sc : Int32} {a1 a2 a3 a4 a6 : Nat → Int32} {m i : Nat} (hm : m ≤ 512) : ∀ (w d : List (Nat × Nat)) (k : Nat) (a5 : Nat → Int32), ra_L a3 k w → ra_L a5 0 d → k + w.length = m → d.length + w.length ≤ 512 →
    (∀ a5', ra_L a5' 0 (d ++ w) → J7 (nI (i + 1)) dr rc (nI m) pc (nI (d ++ w).length) sc a1 a2 a3 a4 a5' a6) → wX_gatherAllowed_34 post J7 (nI i) dr rc (nI m) pc sc (w.length + 1) (nI k) (nI d.length) a1 a2 a3 a4 a5 a6 := by
  intro w
  induction w with
  | nil =>
    intro d k a5 _ hd hl _ H
    have hl' : k + 0 = m := hl
    rw [List.append_nil] at H
    exact pk_le m k (fun _ => nm_r (nI_1 i) (H a5 hd)) (fun z => absurd z (by omega))
  | cons x w ih =>
    intro d k a5 h3 hd hl hn H
    have hl' : k + (w.length + 1) = m := hl
    have hn' : d.length + (w.length + 1) ≤ 512 := hn
    have el : (d ++ [x]).length = d.length + 1 := by simp
    refine pk_le m k (fun z => absurd z (by omega)) (fun _ => ⟨pk_in k 512 (by omega), pk_in d.length 512 (by omega), ?_⟩)
    rw [nI_clamp (show k < 2 ^ 31 by omega), nI_clamp (show d.length < 2 ^ 31 by omega), h3.1]
    refine nm_e (nm_r (nI_1 d.length) (nm_r (nI_1 k) ?_))
    have t := ih (d ++ [x]) (k + 1) (upd a5 d.length (ra_b x)) h3.2.2 (ra_push hd h3.2.1 rfl rfl) (by omega) (by rw [el]; omega) (by rw [List.append_assoc]; exact H)
    rw [el] at t
    exact t
theorem ra_ga7 {post : St2 → Prop} {dr wc pc sc : Int32} {a1 a2 a3 a4 a5 a6 : Nat → Int32} {n m i act : Nat} (l : List (Nat × Nat)) (x : Nat × Nat) (al : List (Nat × Nat)) (hl : ra_L a1 0 l) (hx : ra_ok x) (ex : a1 i = ra_b x) (hi : i = l.length) (him : i < m) (hm : m ≤ 2) (ea : a2 i = nI act) (hact : act < 2) (hal : ra_L a5 0 al) (hn : al.length + (ra_subs l [x]).length ≤ 512)
    (H : ∀ wc' pc' a3' a4' a5', ra_L a5' 0 (al ++ ra_g act (ra_subs l [x])) → wX_gatherAllowed_7 post n (nI (i + 1)) dr (nI m) wc' pc' (nI (al ++ ra_g act (ra_subs l [x])).length) sc a1 a2 a3' a4' a5' a6) :
    wX_gatherAllowed_7 post (n + 1) (nI i) dr (nI m) wc pc (nI al.length) sc a1 a2 a3 a4 a5 a6 := by
  refine pk_le m i (fun z => absurd z (by omega)) (fun _ => ⟨pk_in i 10 (by omega), ?_⟩)
  rw [nI_clamp (show i < 2 ^ 31 by omega), ea]
  refine pk_eq act 0 (fun z => nm_r (nI_1 i) ?_) (fun z => ?_)
  · have e : ra_g act (ra_subs l [x]) = [] := by
      unfold ra_g
      rw [if_pos z]
    rw [e, List.append_nil] at H
    exact H _ _ _ _ _ hal
  · have e : ra_g act (ra_subs l [x]) = ra_subs l [x] := by
      unfold ra_g
      rw [if_neg z]
    rw [e] at H
    refine ra_co l x hl hx ex hi (by omega) (fun pc' a3' a4' h' => ⟨(ra_subs l [x]).length + 1, ?_⟩)
    exact ra_ga34 (by omega) (ra_subs l [x]) al 0 a5 h' hal (by omega) hn (fun a5' h5 => H _ _ _ _ a5' h5)
/-! ===== sums of volumes, lowest corners ===== -/
def ra_vl : List (Nat × Nat) → Nat
  | [] => 0
  | x :: l => 32 * (x.2 + 1 - x.1) + ra_vl l
theorem ra_vw4 {post : Int32 → Prop} {dr rc pc ac sc : Int32} {a1 a2 a3 a4 a5 a6 : Nat → Int32} {m : Nat} (hm : m ≤ 512) : ∀ (w : List (Nat × Nat)) (k s : Nat), ra_L a3 k w → k + w.length = m → post (nI (s + ra_vl w)) →
    wX_volumeOfWork_4 post dr rc (nI m) pc ac sc a1 a2 a3 a4 a5 a6 (w.length + 1) (nI s) (nI k) := by
  intro w
  induction w with
  | nil =>
    intro k s _ hl H
    have hl' : k + 0 = m := hl
    exact pk_le m k (fun _ => H) (fun z => absurd z (by omega))
  | cons x w ih =>
    intro k s h3 hl H
    have hl' : k + (w.length + 1) = m := hl
    have e : s + ra_vl (x :: w) = (s + 32 * (x.2 + 1 - x.1)) + ra_vl w := by
      show s + (32 * (x.2 + 1 - x.1) + ra_vl w) = _
      omega
    rw [e] at H
    refine pk_le m k (fun z => absurd z (by omega)) (fun _ => ⟨pk_in k 512 (by omega), ?_⟩)
    rw [nI_clamp (show k < 2 ^ 31 by omega), h3.1]
    refine ra_vol h3.2.1 (nm_r (nI_add _ _) (nm_r (nI_1 k) ?_))
    exact ih (k + 1) _ h3.2.2 (by omega) H
theorem ra_vw {post : Int32 → Prop} {dr rc pc ac sc : Int32} {a1 a2 a3 a4 a5 a6 : Nat → Int32} {w : List (Nat × Nat)} (hw : ra_L a3 0 w) (hn : w.length ≤ 512) (H : post (nI (ra_vl w))) :
    wpX_volumeOfWork post (dr, rc, nI w.length, pc, ac, sc, a1, a2, a3, a4, a5, a6) := by
  refine ⟨w.length + 1, ra_vw4 hn w 0 0 hw (by omega) ?_⟩
  rw [Nat.zero_add]
  exact H
def ra_lc : List (Nat × Nat) → Int32 → Int32
  | [], g => g
  | x :: l, g => ra_lc l (if g = -3 then nI (32 * x.1) else if g ≤ nI (32 * x.1) then g else nI (32 * x.1))
theorem ra_tc : ∀ f, f < 16 → ((32 * nI f) + (2 * (0 : Int32))) + 0 = nI (32 * f) := by decide +kernel
theorem ra_lc4 {post : Int32 → Prop} {dr rc pc ac sc : Int32} {a1 a2 a3 a4 a5 a6 : Nat → Int32} {m : Nat} (hm : m ≤ 512) : ∀ (w : List (Nat × Nat)) (k : Nat) (g : Int32), ra_L a3 k w → k + w.length = m → post (ra_lc w g) →
    wX_lowestCorner_4 post dr rc (nI m) pc ac sc a1 a2 a3 a4 a5 a6 (w.length + 1) g (nI k) := by
  intro w
  induction w with
  | nil =>
    intro k g _ hl H
    have hl' : k + 0 = m := hl
    exact pk_le m k (fun _ => H) (fun z => absurd z (by omega))
  | cons x w ih =>
    intro k g h3 hl H
    have hl' : k + (w.length + 1) = m := hl
    have e : ra_lc (x :: w) g = ra_lc w (if g = -3 then nI (32 * x.1) else if g ≤ nI (32 * x.1) then g else nI (32 * x.1)) := rfl
    rw [e] at H
    refine pk_le m k (fun z => absurd z (by omega)) (fun _ => ⟨pk_in k 512 (by omega), ?_⟩)
    rw [nI_clamp (show k < 2 ^ 31 by omega), h3.1]
    refine nm_e (ra_fS h3.2.1 (ra_fD h3.2.1 (ra_fP h3.2.1 (nm_r (ra_tc x.1 (ra_l1 h3.2.1)) ?_))))
    refine br_c (fun z => nm_r (nI_1 k) ?_) (fun z => br_c (fun y => nm_r (nI_1 k) ?_) (fun y => nm_r (nI_1 k) ?_))
    · rw [if_pos z] at H
      exact ih (k + 1) _ h3.2.2 (by omega) H
    · rw [if_neg z, if_pos y] at H
      exact ih (k + 1) _ h3.2.2 (by omega) H
    · rw [if_neg z, if_neg y] at H
      exact ih (k + 1) _ h3.2.2 (by omega) H
theorem ra_low {post : Int32 → Prop} {dr rc pc ac sc : Int32} {a1 a2 a3 a4 a5 a6 : Nat → Int32} {w : List (Nat × Nat)} {g : Int32} (hw : ra_L a3 0 w) (hn : w.length ≤ 512) (H : post (ra_lc w g)) :
    wpX_lowestCorner post (dr, rc, nI w.length, pc, ac, sc, a1, a2, a3, a4, a5, a6) g :=
  ⟨w.length + 1, ra_lc4 hn w 0 g hw (by omega) H⟩
/-! ===== the two differences of the allowed sets ===== -/
theorem ra_nw38 {post : St2 → Prop} {dr rc ac : Int32} {a1 a2 a5 a6 : Nat → Int32} {m : Nat} (hm : m ≤ 512) : ∀ (l w : List (Nat × Nat)) (k : Nat) (pc : Int32) (a3 a4 : Nat → Int32), ra_L a6 k l → ra_L a3 0 w → k + l.length = m → w.length * 2 ^ l.length ≤ 512 →
    (∀ pc' a3' a4', ra_L a3' 0 (ra_subs l w) → post (dr, rc, nI (ra_subs l w).length, pc', ac, nI m, a1, a2, a3', a4', a5, a6)) → wX_carveNewlyAllowed_38 post (l.length + 1) (nI k) dr rc (nI w.length) pc ac (nI m) a1 a2 a3 a4 a5 a6 := by
  intro l
  induction l with
  | nil =>
    intro w k pc a3 a4 _ hw hl _ H
    have hl' : k + 0 = m := hl
    exact pk_le m k (fun _ => H pc a3 a4 hw) (fun z => absurd z (by omega))
  | cons c l ih =>
    intro w k pc a3 a4 h1 hw hl hn H
    have hl' : k + (l.length + 1) = m := hl
    have hn' : w.length * 2 ^ (l.length + 1) ≤ 512 := hn
    have h5 := ra_pow0 hn'
    refine pk_le m k (fun z => absurd z (by omega)) (fun _ => ?_)
    refine pk_le w.length 0 (fun z => ?_) (fun z => ⟨pk_in k 512 (by omega), ?_⟩)
    · have e : w = [] := List.eq_nil_of_length_eq_zero (by omega)
      subst e
      rw [ra_subs_nil] at H
      exact H pc a3 a4 hw
    · rw [nI_clamp (show k < 2 ^ 31 by omega), h1.1]
      refine ra_subtract h1.2.1 hw h5 (fun pc' a3' a4' h' => nm_r (nI_1 k) ?_)
      exact ih (ra_sub c w) (k + 1) pc' a3' a4' h1.2.2 h' (by omega) (ra_pow hn' (ra_sub_len c w)) H
theorem ra_nl38 {post : St2 → Prop} {dr rc sc : Int32} {a1 a2 a5 a6 : Nat → Int32} {m : Nat} (hm : m ≤ 512) : ∀ (l w : List (Nat × Nat)) (k : Nat) (pc : Int32) (a3 a4 : Nat → Int32), ra_L a5 k l → ra_L a3 0 w → k + l.length = m → w.length * 2 ^ l.length ≤ 512 →
    (∀ pc' a3' a4', ra_L a3' 0 (ra_subs l w) → post (dr, rc, nI (ra_subs l w).length, pc', nI m, sc, a1, a2, a3', a4', a5, a6)) → wX_carveNoLongerAllowed_38 post (l.length + 1) (nI k) dr rc (nI w.length) pc (nI m) sc a1 a2 a3 a4 a5 a6 := by
  intro l
  induction l with
  | nil =>
    intro w k pc a3 a4 _ hw hl _ H
    have hl' : k + 0 = m := hl
    exact pk_le m k (fun _ => H pc a3 a4 hw) (fun z => absurd z (by omega))
  | cons c l ih =>
    intro w k pc a3 a4 h1 hw hl hn H
    have hl' : k + (l.length + 1) = m := hl
    have hn' : w.length * 2 ^ (l.length + 1) ≤ 512 := hn
    have h5 := ra_pow0 hn'
    refine pk_le m k (fun z => absurd z (by omega)) (fun _ => ?_)
    refine pk_le w.length 0 (fun z => ?_) (fun z => ⟨pk_in k 512 (by omega), ?_⟩)
    · have e : w = [] := List.eq_nil_of_length_eq_zero (by omega)
      subst e
      rw [ra_subs_nil] at H
      exact H pc a3 a4 hw
    · rw [nI_clamp (show k < 2 ^ 31 by omega), h1.1]
      refine ra_subtract h1.2.1 hw h5 (fun pc' a3' a4' h' => nm_r (nI_1 k) ?_)
      exact ih (ra_sub c w) (k + 1) pc' a3' a4' h1.2.2 h' (by omega) (ra_pow hn' (ra_sub_len c w)) H
theorem ra_nw2 {post : St2 → Prop} {dr rc wc pc sc : Int32} {a1 a2 a4 a5 a6 : Nat → Int32} {m : Nat} (hm : m ≤ 512) : ∀ (l d : List (Nat × Nat)) (k : Nat) (a3 : Nat → Int32), ra_L a5 k l → ra_L a3 0 d → k = d.length → k + l.length = m →
    (∀ a3', ra_L a3' 0 (d ++ l) → ∃ fu, wX_carveNewlyAllowed_38 post fu 0 dr rc (nI m) pc (nI m) sc a1 a2 a3' a4 a5 a6) → wX_carveNewlyAllowed_2 post dr rc wc pc (nI m) sc (l.length + 1) (nI k) a1 a2 a3 a4 a5 a6 := by
  intro l
  induction l with
  | nil =>
    intro d k a3 _ hd hk hl H
    have hl' : k + 0 = m := hl
    rw [List.append_nil] at H
    exact pk_le m k (fun _ => H a3 hd) (fun z => absurd z (by omega))
  | cons x l ih =>
    intro d k a3 h5 hd hk hl H
    have hl' : k + (l.length + 1) = m := hl
    refine pk_le m k (fun z => absurd z (by omega)) (fun _ => ⟨pk_in k 512 (by omega), pk_in k 512 (by omega), ?_⟩)
    rw [nI_clamp (show k < 2 ^ 31 by omega)]
    refine nm_e (nm_r (nI_1 k) ?_)
    refine ih (d ++ [x]) (k + 1) _ h5.2.2 (ra_push hd h5.2.1 hk h5.1) (by simp; omega) (by omega) ?_
    rw [List.append_assoc]
    exact H
theorem ra_nl2 {post : St2 → Prop} {dr rc wc pc ac : Int32} {a1 a2 a4 a5 a6 : Nat → Int32} {m : Nat} (hm : m ≤ 512) : ∀ (l d : List (Nat × Nat)) (k : Nat) (a3 : Nat → Int32), ra_L a6 k l → ra_L a3 0 d → k = d.length → k + l.length = m →
    (∀ a3', ra_L a3' 0 (d ++ l) → ∃ fu, wX_carveNoLongerAllowed_38 post fu 0 dr rc (nI m) pc ac (nI m) a1 a2 a3' a4 a5 a6) → wX_carveNoLongerAllowed_2 post dr rc wc pc ac (nI m) (l.length + 1) (nI k) a1 a2 a3 a4 a5 a6 := by
  intro l
  induction l with
  | nil =>
    intro d k a3 _ hd hk hl H
    have hl' : k + 0 = m := hl
    rw [List.append_nil] at H
    exact pk_le m k (fun _ => H a3 hd) (fun z => absurd z (by omega))
  | cons x l ih =>
    intro d k a3 h5 hd hk hl H
    have hl' : k + (l.length + 1) = m := hl
    refine pk_le m k (fun z => absurd z (by omega)) (fun _ => ⟨pk_in k 512 (by omega), pk_in k 512 (by omega), ?_⟩)
    rw [nI_clamp (show k < 2 ^ 31 by omega)]
    refine nm_e (nm_r (nI_1 k) ?_)
    refine ih (d ++ [x]) (k + 1) _ h5.2.2 (ra_push hd h5.2.1 hk h5.1) (by simp; omega) (by omega) ?_
    rw [List.append_assoc]
    exact H
theorem ra_nw {post : St2 → Prop} {dr rc wc pc : Int32} {a1 a2 a3 a4 a5 a6 : Nat → Int32} {al sv : List (Nat × Nat)} (h5 : ra_L a5 0 al) (h6 : ra_L a6 0 sv) (hsv : sv.length ≤ 512) (hn : al.length * 2 ^ sv.length ≤ 512)
    (H : ∀ pc' a3' a4', ra_L a3' 0 (ra_subs sv al) → post (dr, rc, nI (ra_subs sv al).length, pc', nI al.length, nI sv.length, a1, a2, a3', a4', a5, a6)) :
    wpX_carveNewlyAllowed post (dr, rc, wc, pc, nI al.length, nI sv.length, a1, a2, a3, a4, a5, a6) := by
  have hal : al.length ≤ 512 := by
    have h2 : al.length * 1 ≤ al.length * 2 ^ sv.length := Nat.mul_le_mul_left _ Nat.one_le_two_pow
    omega
  exact ⟨al.length + 1, ra_nw2 hal al [] 0 a3 h5 trivial rfl (by omega) (fun a3' h3 => ⟨sv.length + 1, ra_nw38 hsv sv al 0 pc a3' a4 h6 h3 (by omega) hn H⟩)⟩
theorem ra_nl {post : St2 → Prop} {dr rc wc pc : Int32} {a1 a2 a3 a4 a5 a6 : Nat → Int32} {al sv : List (Nat × Nat)} (h5 : ra_L a5 0 al) (h6 : ra_L a6 0 sv) (hal : al.length ≤ 512) (hn : sv.length * 2 ^ al.length ≤ 512)
    (H : ∀ pc' a3' a4', ra_L a3' 0 (ra_subs al sv) → post (dr, rc, nI (ra_subs al sv).length, pc', nI al.length, nI sv.length, a1, a2, a3', a4', a5, a6)) :
    wpX_carveNoLongerAllowed post (dr, rc, wc, pc, nI al.length, nI sv.length, a1, a2, a3, a4, a5, a6) := by
  have hsv : sv.length ≤ 512 := by
    have h2 : sv.length * 1 ≤ sv.length * 2 ^ al.length := Nat.mul_le_mul_left _ Nat.one_le_two_pow
    omega
  exact ⟨sv.length + 1, ra_nl2 hsv sv [] 0 a3 h6 trivial rfl (by omega) (fun a3' h3 => ⟨al.length + 1, ra_nl38 hal al sv 0 pc a3' a4 h5 h3 (by omega) hn H⟩)⟩
/-! ===== save ===== -/
theorem ra_sv8 {post : Int32 → St2 → Prop} {dr rc wc pc sc : Int32} {a1 a2 a3 a4 a5 : Nat → Int32} {m : Nat} (hm : m ≤ 512) : ∀ (l d : List (Nat × Nat)) (k s : Nat) (a6 : Nat → Int32), ra_L a5 k l → ra_L a6 0 d → k = d.length → k + l.length = m →
    (∀ a6', ra_L a6' 0 (d ++ l) → post (nI (s + ra_vl l)) (dr, rc, wc, pc, nI m, nI m, a1, a2, a3, a4, a5, a6')) → wX_save_8 post dr rc wc pc (nI m) sc (l.length + 1) (nI s) (nI k) a1 a2 a3 a4 a5 a6 := by
  intro l
  induction l with
  | nil =>
    intro d k s a6 _ hd hk hl H
    have hl' : k + 0 = m := hl
    rw [List.append_nil] at H
    exact pk_le m k (fun _ => H a6 hd) (fun z => absurd z (by omega))
  | cons x l ih =>
    intro d k s a6 h5 hd hk hl H
    have hl' : k + (l.length + 1) = m := hl
    have e : s + ra_vl (x :: l) = (s + 32 * (x.2 + 1 - x.1)) + ra_vl l := by
      show s + (32 * (x.2 + 1 - x.1) + ra_vl l) = _
      omega
    rw [e] at H
    refine pk_le m k (fun z => absurd z (by omega)) (fun _ => ⟨pk_in k 512 (by omega), pk_in k 512 (by omega), ?_⟩)
    rw [nI_clamp (show k < 2 ^ 31 by omega), h5.1]
    refine nm_e ⟨pk_in k 512 (by omega), ?_⟩
    refine ra_vol h5.2.1 (nm_r (nI_add _ _) (nm_r (nI_1 k) ?_))
    refine ih (d ++ [x]) (k + 1) _ _ h5.2.2 (ra_push hd h5.2.1 hk rfl) (by simp; omega) (by omega) ?_
    rw [List.append_assoc]
    exact H
end
section
/-! ===== the two rules: r with action n0, everything with action n1 ===== -/
def ra_W : Nat × Nat := (0, 15)
theorem ra_okW : ra_ok ra_W := ⟨by decide, by decide⟩
def ra_A1 (n1 : Nat) : List (Nat × Nat) := [] ++ ra_g n1 (ra_subs [] [ra_W])
def ra_A2 (r : Nat × Nat) (n0 n1 : Nat) : List (Nat × Nat) := ([] ++ ra_g n0 (ra_subs [] [r])) ++ ra_g n1 (ra_subs [r] [ra_W])
def ra_K (r : Nat × Nat) (n0 n1 : Nat) (a1 a2 : Nat → Int32) : Prop := ra_ok r ∧ n0 < 2 ∧ n1 < 2 ∧ a1 0 = ra_b r ∧ a1 1 = ra_b ra_W ∧ a2 0 = nI n0 ∧ a2 1 = nI n1
theorem ra_g_len (n : Nat) (w : List (Nat × Nat)) : (ra_g n w).length ≤ w.length := by
  unfold ra_g
  split
  · exact Nat.zero_le _
  · exact Nat.le_refl _
theorem ra_own_len (r : Nat × Nat) : (ra_subs [r] [ra_W]).length ≤ 2 := ra_sub_len r [ra_W]
theorem ra_A1_len (n1 : Nat) : (ra_A1 n1).length ≤ 1 := by
  have h : (ra_g n1 (ra_subs [] [ra_W])).length ≤ 1 := ra_g_len n1 _
  unfold ra_A1
  rw [List.nil_append]
  exact h
theorem ra_A2_len (r : Nat × Nat) (n0 n1 : Nat) : (ra_A2 r n0 n1).length ≤ 3 := by
  have h : (ra_g n0 (ra_subs [] [r])).length ≤ 1 := ra_g_len n0 _
  have h2 := ra_g_len n1 (ra_subs [r] [ra_W])
  have h3 := ra_own_len r
  unfold ra_A2
  rw [List.nil_append, List.length_append]
  omega
theorem ra_subs_len : ∀ (l w : List (Nat × Nat)), (ra_subs l w).length ≤ w.length * 2 ^ l.length := by
  intro l
  induction l with
  | nil =>
    intro w
    show w.length ≤ w.length * 1
    omega
  | cons c l ih =>
    intro w
    have h := ih (ra_sub c w)
    have h1 : (ra_sub c w).length * 2 ^ l.length ≤ 2 * w.length * 2 ^ l.length := Nat.mul_le_mul_right _ (ra_sub_len c w)
    have h2 : w.length * 2 ^ (l.length + 1) = 2 * w.length * 2 ^ l.length := by
      rw [Nat.pow_succ, Nat.mul_comm (2 ^ l.length) 2, ← Nat.mul_assoc, Nat.mul_comm w.length 2]
    show (ra_subs l (ra_sub c w)).length ≤ w.length * 2 ^ (l.length + 1)
    omega
theorem ra_c0 : (nI 0).toNatClampNeg = 0 := nI_clamp (by omega)
theorem ra_c1 : (nI 1).toNatClampNeg = 1 := nI_clamp (by omega)
theorem ra_two {a b : Nat} (ha : a ≤ 3) (hb : b ≤ 3) : a * 2 ^ b ≤ 512 := by
  have h : 2 ^ b ≤ 2 ^ 3 := Nat.pow_le_pow_right (by omega) hb
  have h2 : a * 2 ^ b ≤ 3 * 2 ^ 3 := Nat.mul_le_mul ha h
  omega
/-! ===== gatherAllowed over one rule, over two ===== -/
theorem ra_ga1 {post : St2 → Prop} {dr wc pc ac sc : Int32} {a1 a2 a3 a4 a5 a6 : Nat → Int32} {n1 : Nat} (h1 : n1 < 2) (e1 : a1 0 = ra_b ra_W) (e2 : a2 0 = nI n1)
    (H : ∀ wc' pc' a3' a4' a5', ra_L a5' 0 (ra_A1 n1) → post (dr, nI 1, wc', pc', nI (ra_A1 n1).length, sc, a1, a2, a3', a4', a5', a6)) :
    wpX_gatherAllowed post (dr, nI 1, wc, pc, ac, sc, a1, a2, a3, a4, a5, a6) := by
  unfold wpX_gatherAllowed
  dsimp only
  refine ⟨2, ?_⟩
  refine ra_ga7 (n := 1) (m := 1) (i := 0) (act := n1) [] ra_W [] trivial ra_okW e1 rfl (by omega) (by omega) e2 h1 trivial (by show 0 + 1 ≤ 512; omega) (fun wc' pc' a3' a4' a5' h' => ?_)
  exact pk_le 1 1 (fun _ => H wc' pc' a3' a4' a5' h') (fun z => absurd z (by omega))
theorem ra_ga2 {post : St2 → Prop} {dr wc pc ac sc : Int32} {a1 a2 a3 a4 a5 a6 : Nat → Int32} {r : Nat × Nat} {n0 n1 : Nat} (k : ra_K r n0 n1 a1 a2)
    (H : ∀ wc' pc' a3' a4' a5', ra_L a5' 0 (ra_A2 r n0 n1) → post (dr, nI 2, wc', pc', nI (ra_A2 r n0 n1).length, sc, a1, a2, a3', a4', a5', a6)) :
    wpX_gatherAllowed post (dr, nI 2, wc, pc, ac, sc, a1, a2, a3, a4, a5, a6) := by
  obtain ⟨hr, h0, h1, e1, e2, e3, e4⟩ := k
  unfold wpX_gatherAllowed
  dsimp only
  refine ⟨3, ?_⟩
  refine ra_ga7 (n := 2) (m := 2) (i := 0) (act := n0) [] r [] trivial hr e1 rfl (by omega) (by omega) e3 h0 trivial (by show 0 + 1 ≤ 512; omega) (fun wc' pc' a3' a4' a5' h' => ?_)
  have hg : ([] ++ ra_g n0 (ra_subs [] [r])).length ≤ 1 := ra_g_len n0 [r]
  have ho := ra_own_len r
  refine ra_ga7 (n := 1) (m := 2) (i := 1) (act := n1) [r] ra_W ([] ++ ra_g n0 (ra_subs [] [r])) ⟨e1, hr, trivial⟩ ra_okW e2 rfl (by omega) (by omega) e4 h1 h' (by omega) (fun wc' pc' a3' a4' a5' h' => ?_)
  exact pk_le 2 2 (fun _ => H wc' pc' a3' a4' a5' h') (fun z => absurd z (by omega))
/-! ===== the answers ===== -/
theorem ra_save {post : Int32 → St2 → Prop} {dr wc pc ac sc : Int32} {a1 a2 a3 a4 a5 a6 : Nat → Int32} {n1 : Nat} (h1 : n1 < 2) (e1 : a1 0 = ra_b ra_W) (e2 : a2 0 = nI n1)
    (H : ∀ wc' pc' ac' a3' a4' a5' a6', ra_L a6' 0 (ra_A1 n1) → post (nI (ra_vl (ra_A1 n1))) (dr, nI 1, wc', pc', ac', nI (ra_A1 n1).length, a1, a2, a3', a4', a5', a6')) :
    wpX_save post (dr, nI 1, wc, pc, ac, sc, a1, a2, a3, a4, a5, a6) := by
  have hl := ra_A1_len n1
  unfold wpX_save
  dsimp only
  refine ra_ga1 h1 e1 e2 (fun wc' pc' a3' a4' a5' h' => ?_)
  refine ⟨(ra_A1 n1).length + 1, ra_sv8 (by omega) (ra_A1 n1) [] 0 0 a6 h' trivial rfl (by omega) (fun a6' h6 => ?_)⟩
  rw [Nat.zero_add]
  exact H wc' pc' _ a3' a4' a5' a6' h6
theorem ra_isR {post : Int32 → Prop} {dr wc pc ac sc : Int32} {a1 a2 a3 a4 a5 a6 : Nat → Int32} {i m : Nat} (hi : i < m) (hm : m ≤ 10) (H : post 1) : wpX_isRule post (dr, nI m, wc, pc, ac, sc, a1, a2, a3, a4, a5, a6) (nI i) := by
  unfold wpX_isRule
  dsimp only
  exact pk_lt i 0 (fun z => absurd z (by omega)) (fun _ => pk_le m i (fun z => absurd z (by omega)) (fun _ => H))
theorem ra_owned {post : Int32 → St2 → Prop} {dr wc pc ac sc : Int32} {a1 a2 a3 a4 a5 a6 : Nat → Int32} {i : Nat} (l : List (Nat × Nat)) (x : Nat × Nat) (hl : ra_L a1 0 l) (hx : ra_ok x) (ex : a1 i = ra_b x) (hi : i = l.length) (h2 : i < 2)
    (H : ∀ wc' pc' a3' a4', post (nI (ra_vl (ra_subs l [x]))) (dr, nI 2, wc', pc', ac, sc, a1, a2, a3', a4', a5, a6)) :
    wpX_owned post (dr, nI 2, wc, pc, ac, sc, a1, a2, a3, a4, a5, a6) (nI i) := by
  have hn := ra_subs_len l [x]
  have hw : ([x] : List (Nat × Nat)).length * 2 ^ l.length ≤ 512 := ra_two (by show 1 ≤ 3; omega) (by omega)
  unfold wpX_owned
  dsimp only
  refine ra_isR h2 (by omega) (br_f (by decide) ?_)
  refine ra_co l x hl hx ex hi (by omega) (fun pc' a3' a4' h' => ?_)
  exact ra_vw h' (by omega) (H _ _ _ _)
theorem ra_changed {post : Int32 → St2 → Prop} {dr wc pc ac : Int32} {a1 a2 a3 a4 a5 a6 : Nat → Int32} {r : Nat × Nat} {n0 n1 : Nat} {sv : List (Nat × Nat)} (k : ra_K r n0 n1 a1 a2) (h6 : ra_L a6 0 sv) (hsv : sv.length ≤ 1)
    (H : ∀ wc' pc' ac' a3' a4' a5', post (nI (ra_vl (ra_subs sv (ra_A2 r n0 n1))) + nI (ra_vl (ra_subs (ra_A2 r n0 n1) sv))) (dr, nI 2, wc', pc', ac', nI sv.length, a1, a2, a3', a4', a5', a6)) :
    wpX_changed post (dr, nI 2, wc, pc, ac, nI sv.length, a1, a2, a3, a4, a5, a6) := by
  have hl := ra_A2_len r n0 n1
  have b1 : (ra_A2 r n0 n1).length * 2 ^ sv.length ≤ 512 := ra_two hl (by omega)
  have b2 : sv.length * 2 ^ (ra_A2 r n0 n1).length ≤ 512 := ra_two (by omega) hl
  have b3 := ra_subs_len sv (ra_A2 r n0 n1)
  have b4 := ra_subs_len (ra_A2 r n0 n1) sv
  unfold wpX_changed
  dsimp only
  refine ra_ga2 k (fun wc' pc' a3' a4' a5' h5 => ?_)
  refine ra_nw h5 h6 (by omega) b1 (fun pc2 a32 a42 h3 => ?_)
  refine ra_vw h3 (by omega) ?_
  refine ra_nl h5 h6 (by omega) b2 (fun pc3 a33 a43 h4 => ?_)
  exact ra_vw h4 (by omega) (H _ _ _ _ _ _)
theorem ra_first {post : Int32 → St2 → Prop} {dr wc pc ac : Int32} {a1 a2 a3 a4 a5 a6 : Nat → Int32} {r : Nat × Nat} {n0 n1 : Nat} {sv : List (Nat × Nat)} (k : ra_K r n0 n1 a1 a2) (h6 : ra_L a6 0 sv) (hsv : sv.length ≤ 1)
    (H : ∀ wc' pc' ac' a3' a4' a5', post (ra_lc (ra_subs (ra_A2 r n0 n1) sv) (ra_lc (ra_subs sv (ra_A2 r n0 n1)) (-3))) (dr, nI 2, wc', pc', ac', nI sv.length, a1, a2, a3', a4', a5', a6)) :
    wpX_firstChanged post (dr, nI 2, wc, pc, ac, nI sv.length, a1, a2, a3, a4, a5, a6) := by
  have hl := ra_A2_len r n0 n1
  have b1 : (ra_A2 r n0 n1).length * 2 ^ sv.length ≤ 512 := ra_two hl (by omega)
  have b2 : sv.length * 2 ^ (ra_A2 r n0 n1).length ≤ 512 := ra_two (by omega) hl
  have b3 := ra_subs_len sv (ra_A2 r n0 n1)
  have b4 := ra_subs_len (ra_A2 r n0 n1) sv
  unfold wpX_firstChanged
  dsimp only
  refine ra_ga2 k (fun wc' pc' a3' a4' a5' h5 => ?_)
  refine ra_nw h5 h6 (by omega) b1 (fun pc2 a32 a42 h3 => ?_)
  refine ra_low h3 (by omega) ?_
  refine ra_nl h5 h6 (by omega) b2 (fun pc3 a33 a43 h4 => ?_)
  exact ra_low h4 (by omega) (H _ _ _ _ _ _)
/-! ===== fault ===== -/
def ra_F0 (n0 n1 : Nat) : Int32 := if n0 = n1 then 3 else 0
def ra_F1 (r : Nat × Nat) (n0 n1 : Nat) : Int32 := if (ra_subs [r] [ra_W]).length = 0 then (if n0 = n1 then 2 else 1) else if n1 = 0 then 3 else if n0 = n1 then 0 else 5
theorem ra_subW {r : Nat × Nat} (hr : ra_ok r) : ra_sub ra_W [r] = [] := by
  have h1 : ¬ r.1 < (0 : Nat) := by omega
  have h2 : ¬ (15 : Nat) < r.2 := by
    have h := hr.2
    omega
  have h3 : r.1 ≤ (15 : Nat) ∧ (0 : Nat) ≤ r.2 := ⟨Nat.le_trans hr.1 hr.2, Nat.zero_le _⟩
  have e1 : ra_lo ra_W r = [] := if_neg h1
  have e2 : ra_hi ra_W r = [] := if_neg h2
  have e3 : ra_cut ra_W r = ra_pcs ra_W r := if_pos h3
  show ra_cut ra_W r ++ [] = []
  rw [e3, List.append_nil]
  unfold ra_pcs
  rw [e1, e2]
  rfl
theorem ra_fault0 {post : Int32 → St2 → Prop} {dr wc pc ac sc : Int32} {a1 a2 a3 a4 a5 a6 : Nat → Int32} {r : Nat × Nat} {n0 n1 : Nat} (k : ra_K r n0 n1 a1 a2)
    (H : ∀ wc' pc' a3' a4', post (ra_F0 n0 n1) (dr, nI 2, wc', pc', ac, sc, a1, a2, a3', a4', a5, a6)) :
    wpX_fault post (dr, nI 2, wc, pc, ac, sc, a1, a2, a3, a4, a5, a6) (nI 0) := by
  obtain ⟨hr, h0, h1, e1, e2, e3, e4⟩ := k
  unfold wpX_fault
  dsimp only
  refine ra_isR (by omega) (by omega) (br_f (by decide) ?_)
  refine ra_co [] r trivial hr e1 rfl (by omega) (fun pc' a3' a4' h' => ?_)
  refine pk_eq 1 0 (fun z => absurd z (by omega)) (fun _ => ?_)
  unfold wpX_replaceable
  dsimp only
  refine nm_r (e' := nI 1) (nI_1 0) ⟨2, ?_⟩
  refine pk_le 2 1 (fun z => absurd z (by omega)) (fun _ => ⟨pk_in 1 10 (by omega), pk_in 0 10 (by omega), ?_⟩)
  rw [ra_c1, ra_c0, e4, e3]
  refine pk_eq n1 n0 (fun z => ?_) (fun z => ?_)
  · have eF : ra_F0 n0 n1 = 3 := if_pos z.symm
    rw [eF] at H
    unfold wX_replaceable_64
    refine ⟨pk_in 1 10 (by omega), ?_⟩
    rw [ra_c1, e2]
    refine ra_subtract (w := [r]) ra_okW h' (by show 2 * 1 ≤ 512; omega) (fun pc2 a32 a42 h2 => nm_r (e' := nI 2) (nI_1 1) ?_)
    rw [ra_subW hr]
    refine pk_le 2 2 (fun _ => ?_) (fun z => absurd z (by omega))
    refine pk_eq 0 0 (fun _ => ?_) (fun z => absurd rfl z)
    exact br_f (by decide) (H _ _ _ _)
  · have eF : ra_F0 n0 n1 = 0 := if_neg (fun t => z t.symm)
    rw [eF] at H
    refine ⟨2, ?_⟩
    refine pk_le 1 0 (fun z => absurd z (by omega)) (fun _ => ⟨pk_in 0 512 (by omega), pk_in 1 10 (by omega), ?_⟩)
    rw [sb_cl0, ra_c1, e2, h'.1]
    refine ra_meets hr ra_okW (fun _ => br_f (by decide) ?_) (fun t => absurd ⟨Nat.le_trans hr.1 hr.2, Nat.zero_le _⟩ t)
    refine br_t rfl ⟨1, ?_⟩
    exact pk_le 0 0 (fun _ => br_t rfl (H _ _ _ _)) (fun z => absurd z (by omega))
theorem ra_fault1 {post : Int32 → St2 → Prop} {dr wc pc ac sc : Int32} {a1 a2 a3 a4 a5 a6 : Nat → Int32} {r : Nat × Nat} {n0 n1 : Nat} (k : ra_K r n0 n1 a1 a2)
    (H : ∀ wc' pc' a3' a4', post (ra_F1 r n0 n1) (dr, nI 2, wc', pc', ac, sc, a1, a2, a3', a4', a5, a6)) :
    wpX_fault post (dr, nI 2, wc, pc, ac, sc, a1, a2, a3, a4, a5, a6) (nI 1) := by
  obtain ⟨hr, h0, h1, e1, e2, e3, e4⟩ := k
  have hm : r.1 ≤ ra_W.2 ∧ ra_W.1 ≤ r.2 := ⟨Nat.le_trans hr.1 hr.2, Nat.zero_le _⟩
  have ho := ra_own_len r
  unfold wpX_fault
  dsimp only
  refine ra_isR (by omega) (by omega) (br_f (by decide) ?_)
  refine ra_co [r] ra_W ⟨e1, hr, trivial⟩ ra_okW e2 rfl (by omega) (fun pc' a3' a4' h' => ?_)
  refine pk_eq (ra_subs [r] [ra_W]).length 0 (fun zl => ?_) (fun zl => ?_)
  · unfold wpX_overruled
    dsimp only
    refine ⟨2, ?_⟩
    refine pk_le 1 0 (fun z => absurd z (by omega)) (fun _ => ⟨pk_in 0 10 (by omega), pk_in 1 10 (by omega), ?_⟩)
    rw [sb_cl0, ra_c1, e4, e3]
    refine pk_eq n0 n1 (fun z => ?_) (fun z => ?_)
    · have eF : ra_F1 r n0 n1 = 2 := by
        unfold ra_F1
        rw [if_pos zl, if_pos z]
      rw [eF] at H
      refine nm_r (e' := nI 1) (nI_1 0) ?_
      exact pk_le 1 1 (fun _ => br_t rfl (H _ _ _ _)) (fun z => absurd z (by omega))
    · have eF : ra_F1 r n0 n1 = 1 := by
        unfold ra_F1
        rw [if_pos zl, if_neg z]
      rw [eF] at H
      refine ra_co (i := 0) [] r trivial hr e1 rfl (by omega) (fun pc2 a32 a42 h2 => ⟨1, ?_⟩)
      refine pk_le 1 0 (fun z => absurd z (by omega)) (fun _ => ⟨pk_in 0 512 (by omega), pk_in 1 10 (by omega), ?_⟩)
      rw [sb_cl0, ra_c1, e2, h2.1]
      refine ra_meets hr ra_okW (fun _ => br_f (by decide) ?_) (fun t => absurd hm t)
      exact br_f (by decide) (H _ _ _ _)
  · unfold wpX_replaceable
    dsimp only
    refine nm_r (e' := nI 2) (nI_1 1) ⟨1, ?_⟩
    refine pk_le 2 2 (fun _ => ?_) (fun z => absurd z (by omega))
    refine pk_eq (ra_subs [r] [ra_W]).length 0 (fun z => absurd z zl) (fun _ => ⟨pk_in 1 10 (by omega), ?_⟩)
    rw [ra_c1, e4]
    refine pk_eq n1 0 (fun z => ?_) (fun z1 => ?_)
    · have eF : ra_F1 r n0 n1 = 3 := by
        unfold ra_F1
        rw [if_neg zl, if_pos z]
      rw [eF] at H
      exact br_f (by decide) (H _ _ _ _)
    · refine br_t rfl ⟨2, ?_⟩
      refine pk_le 1 0 (fun z => absurd z (by omega)) (fun _ => ⟨pk_in 0 10 (by omega), pk_in 1 10 (by omega), ?_⟩)
      dsimp only
      rw [sb_cl0, ra_c1, e4, e3]
      refine pk_eq n0 n1 (fun z => ?_) (fun z => ?_)
      · have eF : ra_F1 r n0 n1 = 0 := by
          unfold ra_F1
          rw [if_neg zl, if_neg z1, if_pos z]
        rw [eF] at H
        refine nm_r (e' := nI 1) (nI_1 0) ?_
        exact pk_le 1 1 (fun _ => br_t rfl (H _ _ _ _)) (fun z => absurd z (by omega))
      · have eF : ra_F1 r n0 n1 = 5 := by
          unfold ra_F1
          rw [if_neg zl, if_neg z1, if_neg z]
        rw [eF] at H
        refine ⟨pk_in 1 10 (by omega), pk_in 0 10 (by omega), ?_⟩
        rw [e1, e2]
        refine ra_meets ra_okW hr (fun _ => br_f (by decide) ⟨pk_in 0 10 (by omega), pk_in 1 10 (by omega), ?_⟩) (fun t => absurd ⟨hm.2, hm.1⟩ t)
        refine ra_within hr ra_okW ⟨Nat.zero_le _, hr.2⟩ (br_f (by decide) ?_)
        refine nm_r (e' := nI 1) (nI_1 0) ?_
        exact pk_le 1 1 (fun _ => br_f (by decide) (H _ _ _ _)) (fun z => absurd z (by omega))
end
section
/-! ===== what the lists come to ===== -/
theorem ra_p_save : ∀ n, n < 2 → nI (ra_vl (ra_A1 n)) = 512 * nI n := by decide +kernel
theorem ra_p_own : ∀ f, f < 16 → ∀ t, t < 16 → f ≤ t → nI (ra_vl (ra_subs [(f, t)] [ra_W])) = 512 - nI (32 * (t + 1 - f)) := by decide +kernel
theorem ra_p_len : ∀ f, f < 16 → ∀ t, t < 16 → f ≤ t → ((ra_subs [(f, t)] [ra_W]).length = 0 ↔ nI (32 * (t + 1 - f)) = 512) := by decide +kernel
theorem ra_p_chg : ∀ f, f < 16 → ∀ t, t < 16 → f ≤ t → ∀ a, a < 2 → ∀ b, b < 2 → nI (ra_vl (ra_subs (ra_A1 b) (ra_A2 (f, t) a b))) + nI (ra_vl (ra_subs (ra_A2 (f, t) a b) (ra_A1 b))) = if a = b then 0 else nI (32 * (t + 1 - f)) := by decide +kernel
theorem ra_p_first : ∀ f, f < 16 → ∀ t, t < 16 → f ≤ t → ∀ a, a < 2 → ∀ b, b < 2 → ra_lc (ra_subs (ra_A2 (f, t) a b) (ra_A1 b)) (ra_lc (ra_subs (ra_A1 b) (ra_A2 (f, t) a b)) (-3)) = if a = b then -3 else nI (32 * f) := by decide +kernel
end
section
/-! ===== insert, draftRange ===== -/
theorem ra_tb : ∀ n, n < 2 → (nI n).toInt8.toInt32 = nI n := by decide +kernel
theorem ra_ins1 {post : Int32 → St2 → Prop} {dr wc pc ac sc : Int32} {a1 a2 a3 a4 a5 a6 : Nat → Int32} {n1 : Nat} (h : n1 < 2)
    (H : post (nI 1) (dr, nI 1, wc, pc, ac, sc, upd a1 0 dr, upd a2 0 (nI n1), a3, a4, a5, a6)) :
    wpX_insert post (dr, nI 0, wc, pc, ac, sc, a1, a2, a3, a4, a5, a6) (nI 0) (nI n1) := by
  unfold wpX_insert
  dsimp only
  refine pk_lt 0 10 (fun _ => ?_) (fun z => absurd z (by omega))
  refine pk_lt 0 0 (fun z => absurd z (by omega)) (fun _ => ?_)
  refine pk_lt 0 0 (fun z => absurd z (by omega)) (fun _ => ?_)
  refine pk_lt n1 0 (fun z => absurd z (by omega)) (fun _ => ?_)
  refine pk_le n1 1 (fun _ => ⟨1, ?_⟩) (fun z => absurd z (by omega))
  refine pk_le 0 0 (fun _ => ⟨pk_in 0 10 (by omega), ?_⟩) (fun z => absurd z (by omega))
  rw [ra_c0, ra_tb n1 h]
  exact nm_e ⟨pk_in 0 10 (by omega), nm_e (nm_r (e' := nI 1) (nI_1 0) H)⟩
theorem ra_ins2 {post : Int32 → St2 → Prop} {dr wc pc ac sc : Int32} {a1 a2 a3 a4 a5 a6 : Nat → Int32} {n0 n1 : Nat} (h0 : n0 < 2) (h1 : n1 < 2) (ea : a2 0 = nI n1)
    (H : ∀ a1' a2', a1' 0 = dr → a1' 1 = a1 0 → a2' 0 = nI n0 → a2' 1 = nI n1 → post (nI 2) (dr, nI 2, wc, pc, ac, sc, a1', a2', a3, a4, a5, a6)) :
    wpX_insert post (dr, nI 1, wc, pc, ac, sc, a1, a2, a3, a4, a5, a6) (nI 0) (nI n0) := by
  have en : vp_nar .byte (nI n1) = nI n1 := by
    rw [vp_nar_byte]
    exact ra_tb n1 h1
  have e10 : nI 1 - 1 = nI 0 := nI_pred 0
  unfold wpX_insert
  dsimp only
  refine pk_lt 1 10 (fun _ => ?_) (fun z => absurd z (by omega))
  refine pk_lt 0 0 (fun z => absurd z (by omega)) (fun _ => ?_)
  refine pk_lt 1 0 (fun z => absurd z (by omega)) (fun _ => ?_)
  refine pk_lt n0 0 (fun z => absurd z (by omega)) (fun _ => ?_)
  refine pk_le n0 1 (fun _ => ⟨2, ?_⟩) (fun z => absurd z (by omega))
  refine pk_le 1 0 (fun z => absurd z (by omega)) (fun _ => ?_)
  rw [e10, ra_c0, ra_c1, ea, en]
  refine ⟨pk_in 0 10 (by omega), pk_in 1 10 (by omega), nm_e ⟨pk_in 0 10 (by omega), pk_in 1 10 (by omega), nm_e (nm_r (e' := nI 0) (pk_m1 0) ?_)⟩⟩
  refine pk_le 0 0 (fun _ => ⟨pk_in 0 10 (by omega), ?_⟩) (fun z => absurd z (by omega))
  rw [ra_c0, ra_tb n0 h0]
  refine nm_e ⟨pk_in 0 10 (by omega), nm_e (nm_r (e' := nI 2) (nI_1 1) ?_)⟩
  refine H _ _ pk_us ?_ pk_us ?_
  · rw [pk_un (by omega), pk_us]
  · rw [pk_un (by omega), pk_us]
theorem ra_dr1 {post : Int32 → St2 → Prop} {rc wc pc ac sc : Int32} {a1 a2 a3 a4 a5 a6 : Nat → Int32} {f t : Nat} (hf : f ≤ t) (ht : t ≤ 15)
    (H : post 1 (ra_b (f, t), rc, wc, pc, ac, sc, a1, a2, a3, a4, a5, a6)) :
    wpX_draftRange post (15421, rc, wc, pc, ac, sc, a1, a2, a3, a4, a5, a6) 0 (nI f) (nI t) := by
  unfold wpX_draftRange
  dsimp only
  refine br_f (by decide) (br_t (by decide) ?_)
  refine pk_lt f 0 (fun z => absurd z (by omega)) (fun _ => ?_)
  refine pk_lt 15 f (fun z => absurd z (by omega)) (fun _ => ?_)
  refine pk_lt t 0 (fun z => absurd z (by omega)) (fun _ => ?_)
  refine pk_lt 15 t (fun z => absurd z (by omega)) (fun _ => ?_)
  refine pk_le f t (fun _ => br_t rfl ?_) (fun z => absurd z (by omega))
  unfold wX_draftRange_48
  exact nm_r (e' := ra_b (f, t)) (ra_tdr f (by omega) t (by omega)) H
theorem ra_dr0 {post : Int32 → St2 → Prop} {dr rc wc pc ac sc : Int32} {a1 a2 a3 a4 a5 a6 : Nat → Int32} {p1 p2 : Int32} (h : p1 < 0 ∨ p2 < p1 ∨ 15 < p2)
    (H : post 0 (dr, rc, wc, pc, ac, sc, a1, a2, a3, a4, a5, a6)) :
    wpX_draftRange post (dr, rc, wc, pc, ac, sc, a1, a2, a3, a4, a5, a6) 0 p1 p2 := by
  unfold wpX_draftRange
  dsimp only
  refine br_f (by decide) (br_t (by decide) ?_)
  refine br_c (fun _ => H) (fun z1 => br_c (fun _ => H) (fun z2 => br_c (fun _ => H) (fun z3 => br_c (fun _ => H) (fun z4 => br_c (fun z5 => ?_) (fun _ => H)))))
  rcases h with h | h | h
  · exact absurd h z1
  · rw [Int32.lt_iff_toInt_lt] at h
    rw [Int32.le_iff_toInt_le] at z5
    omega
  · exact absurd h z4
/-! ===== the law ===== -/
theorem ra_244 {mc ms kc ks : Nat} {x0 x4 x10 dr wc pc ac : Int32} {a1 a2 a3 a4 a5 a6 : Nat → Int32} {r : Nat × Nat} {n0 n1 : Nat} (k : ra_K r n0 n1 a1 a2) (h6 : ra_L a6 0 (ra_A1 n1)) (hE0 : x4 = 0 → r.1 = 0) (hE1 : ¬ x4 = 0 → 32 * x0 = nI (32 * r.1)) (hx : x10 = ra_F1 r n0 n1) :
    wL_lawOf_244 (fun r_5 _ => r_5 = 1) mc ms x0 x4 (nI n0) (nI n1) x10 kc ks dr (nI 2) wc pc ac (nI (ra_A1 n1).length) a1 a2 a3 a4 a5 a6 := by
  have k' := k
  obtain ⟨hr, h0, h1, e1, e2, e3, e4⟩ := k'
  have e : ra_lc (ra_subs (ra_A2 r n0 n1) (ra_A1 n1)) (ra_lc (ra_subs (ra_A1 n1) (ra_A2 r n0 n1)) (-3)) = if n0 = n1 then -3 else nI (32 * r.1) := ra_p_first r.1 (ra_l1 hr) r.2 (ra_l2 hr) hr.1 n0 h0 n1 h1
  unfold wL_lawOf_244
  refine ra_fault1 k (fun wc' pc' a3' a4' => ?_)
  refine br_t hx.symm ?_
  refine ra_first k h6 (ra_A1_len n1) (fun wc' pc' ac' a3' a4' a5' => ?_)
  rw [e]
  refine pk_eq n0 n1 (fun z => ?_) (fun z => br_c (fun z4 => ?_) (fun z4 => ?_))
  · rw [if_pos z]
    exact br_t rfl rfl
  · rw [if_neg z, hE0 z4]
    exact br_t rfl rfl
  · rw [if_neg z, hE1 z4]
    exact br_t rfl rfl
theorem ra_220 {mc ms kc ks : Nat} {x0 x4 x7 y dr wc pc ac : Int32} {a1 a2 a3 a4 a5 a6 : Nat → Int32} {r : Nat × Nat} {n0 n1 : Nat} (k : ra_K r n0 n1 a1 a2) (h6 : ra_L a6 0 (ra_A1 n1)) (hE0 : x4 = 0 → r.1 = 0) (hE1 : ¬ x4 = 0 → 32 * x0 = nI (32 * r.1)) (hz : x7 = nI (32 * (r.2 + 1 - r.1))) (hy : ¬ (ra_subs [r] [ra_W]).length = 0 → y = ra_F1 r n0 n1) :
    wL_lawOf_220 (fun r_5 _ => r_5 = 1) mc ms x0 x4 (nI n0) (nI n1) x7 y kc ks dr (nI 2) wc pc ac (nI (ra_A1 n1).length) a1 a2 a3 a4 a5 a6 := by
  have k' := k
  obtain ⟨hr, h0, h1, e1, e2, e3, e4⟩ := k'
  have hl : (ra_subs [r] [ra_W]).length = 0 ↔ nI (32 * (r.2 + 1 - r.1)) = 512 := ra_p_len r.1 (ra_l1 hr) r.2 (ra_l2 hr) hr.1
  rw [← hz] at hl
  unfold wL_lawOf_220
  refine br_c (fun z => pk_eq n0 n1 (fun z' => ?_) (fun z' => ?_)) (fun z => ra_244 k h6 hE0 hE1 (hy (fun t => z (hl.mp t))))
  · unfold wL_lawOf_242
    refine ra_244 k h6 hE0 hE1 ?_
    unfold ra_F1
    rw [if_pos (hl.mpr z), if_pos z']
  · unfold wL_lawOf_242
    refine ra_244 k h6 hE0 hE1 ?_
    unfold ra_F1
    rw [if_pos (hl.mpr z), if_neg z']
theorem ra_184 {mc ms kc ks : Nat} {x0 x4 x7 y dr wc pc ac : Int32} {a1 a2 a3 a4 a5 a6 : Nat → Int32} {r : Nat × Nat} {n0 n1 : Nat} (k : ra_K r n0 n1 a1 a2) (h6 : ra_L a6 0 (ra_A1 n1)) (hE0 : x4 = 0 → r.1 = 0) (hE1 : ¬ x4 = 0 → 32 * x0 = nI (32 * r.1)) (hz : x7 = nI (32 * (r.2 + 1 - r.1))) (hy : y = ra_F0 n0 n1) :
    wL_lawOf_184 (fun r_5 _ => r_5 = 1) mc ms x0 x4 (nI n0) (nI n1) x7 y kc ks dr (nI 2) wc pc ac (nI (ra_A1 n1).length) a1 a2 a3 a4 a5 a6 := by
  have h0 : n0 < 2 := k.2.1
  have h1 : n1 < 2 := k.2.2.1
  unfold wL_lawOf_184
  refine ra_fault0 k (fun wc' pc' a3' a4' => ?_)
  refine br_t hy.symm ?_
  refine pk_eq n1 0 (fun z => ?_) (fun z => pk_eq n0 n1 (fun z' => ?_) (fun z' => ?_))
  · refine ra_220 k h6 hE0 hE1 hz (fun t => ?_)
    unfold ra_F1
    rw [if_neg t, if_pos z]
  · refine ra_220 k h6 hE0 hE1 hz (fun t => ?_)
    unfold ra_F1
    rw [if_neg t, if_neg z, if_pos z']
  · refine ra_220 k h6 hE0 hE1 hz (fun t => ?_)
    unfold ra_F1
    rw [if_neg t, if_neg z, if_neg z']
theorem ra_167 {mc ms kc ks : Nat} {x0 x4 x7 y v dr wc pc ac : Int32} {a1 a2 a3 a4 a5 a6 : Nat → Int32} {r : Nat × Nat} {n0 n1 : Nat} (k : ra_K r n0 n1 a1 a2) (h6 : ra_L a6 0 (ra_A1 n1)) (hE0 : x4 = 0 → r.1 = 0) (hE1 : ¬ x4 = 0 → 32 * x0 = nI (32 * r.1)) (hz : x7 = nI (32 * (r.2 + 1 - r.1))) (hy : v = y) :
    wL_lawOf_167 (fun r_5 _ => r_5 = 1) mc ms x0 x4 (nI n0) (nI n1) x7 y v kc ks dr (nI 2) wc pc ac (nI (ra_A1 n1).length) a1 a2 a3 a4 a5 a6 := by
  have h0 : n0 < 2 := k.2.1
  have h1 : n1 < 2 := k.2.2.1
  unfold wL_lawOf_167
  refine br_t hy (pk_eq n0 n1 (fun z => ?_) (fun z => ?_))
  · refine ra_184 k h6 hE0 hE1 hz ?_
    unfold ra_F0
    rw [if_pos z]
  · refine ra_184 k h6 hE0 hE1 hz ?_
    unfold ra_F0
    rw [if_neg z]
theorem ra_W0 : ra_b ra_W = 15421 := by decide
theorem ra_51 {x0 x1 x4 z0 : Int32} {r : Nat × Nat} {n0 n1 : Nat} (hr : ra_ok r) (h0 : n0 < 2) (h1 : n1 < 2) (hz : z0 = nI (32 * (r.2 + 1 - r.1)))
    (hD : ∀ (post : Int32 → St2 → Prop) (rc wc pc ac sc : Int32) (a1 a2 a3 a4 a5 a6 : Nat → Int32), post x4 (ra_b r, rc, wc, pc, ac, sc, a1, a2, a3, a4, a5, a6) → wpX_draftRange post (15421, rc, wc, pc, ac, sc, a1, a2, a3, a4, a5, a6) 0 x0 x1)
    (hE0 : x4 = 0 → r.1 = 0) (hE1 : ¬ x4 = 0 → 32 * x0 = nI (32 * r.1)) :
    wL_lawOf_51 (fun r_5 _ => r_5 = 1) 7 2080 x0 x1 x4 (nI n0) (nI n1) z0 0 0 := by
  have eO : nI (ra_vl (ra_subs [r] [ra_W])) = 512 - nI (32 * (r.2 + 1 - r.1)) := ra_p_own r.1 (ra_l1 hr) r.2 (ra_l2 hr) hr.1
  have eC : nI (ra_vl (ra_subs (ra_A1 n1) (ra_A2 r n0 n1))) + nI (ra_vl (ra_subs (ra_A2 r n0 n1) (ra_A1 n1))) = if n0 = n1 then 0 else nI (32 * (r.2 + 1 - r.1)) := ra_p_chg r.1 (ra_l1 hr) r.2 (ra_l2 hr) hr.1 n0 h0 n1 h1
  unfold wL_lawOf_51
  refine ⟨by omega, by omega, 6, 2068, by omega, by omega, ?_⟩
  unfold wpX_init
  refine ⟨by omega, by omega, by omega, by omega, by omega, by omega, by omega, by omega, by omega, by omega, by omega, by omega, ?_⟩
  refine ra_ins1 h1 ?_
  refine br_t rfl ?_
  refine hD _ _ _ _ _ _ _ _ _ _ _ _ ?_
  refine br_t rfl ?_
  refine ra_save h1 (pk_us.trans ra_W0.symm) pk_us (fun wc' pc' ac' a3' a4' a5' a6' h6 => ?_)
  refine br_t (ra_p_save n1 h1) ?_
  refine ra_ins2 h0 h1 pk_us (fun a1' a2' q1 q2 q3 q4 => ?_)
  have q2' : a1' 1 = ra_b ra_W := q2.trans (pk_us.trans ra_W0.symm)
  have k : ra_K r n0 n1 a1' a2' := ⟨hr, h0, h1, q1, q2', q3, q4⟩
  refine br_t rfl ?_
  refine ra_owned (i := 0) [] r trivial hr q1 rfl (by omega) (fun wc2 pc2 a32 a42 => ?_)
  refine br_t hz.symm ?_
  refine ra_owned (i := 1) [r] ra_W ⟨q1, hr, trivial⟩ ra_okW q2' rfl (by omega) (fun wc3 pc3 a33 a43 => ?_)
  rw [eO]
  refine br_t (by rw [hz]) ?_
  refine ra_changed k h6 (ra_A1_len n1) (fun wc4 pc4 ac4 a34 a44 a54 => ?_)
  rw [eC]
  refine pk_eq n0 n1 (fun z => ?_) (fun z => ?_)
  · exact ra_167 k h6 hE0 hE1 hz (if_pos z)
  · exact ra_167 k h6 hE0 hE1 hz ((if_neg z).trans hz.symm)
theorem ra_tz : ∀ f, f < 16 → ∀ t, t < 16 → f ≤ t → 32 * ((nI t - nI f) + 1) = nI (32 * (t + 1 - f)) := by decide +kernel
theorem ra_te : ∀ f, f < 16 → 32 * nI f = nI (32 * f) := by decide +kernel
theorem ra_19 {p0 p1 p2 p3 : Int32} (h : p0 < 0 ∨ p1 < p0 ∨ 15 < p1) : wL_lawOf_19 (fun r_5 _ => r_5 = 1) 7 2080 p0 p1 p2 p3 0 0 := by
  obtain ⟨n0, h0, e0⟩ := pk_andE p2 (m := 1) 1 (by decide)
  obtain ⟨n1, h1, e1⟩ := pk_andE p3 (m := 1) 1 (by decide)
  unfold wL_lawOf_19
  unfold wL_lawOf_20
  refine nm_r e0 (nm_r e1 (br_t rfl ?_))
  refine ra_51 (r := ra_W) ra_okW h0 h1 (by decide) (fun post rc wc pc ac sc a1 a2 a3 a4 a5 a6 H => ?_) (fun _ => rfl) (fun z => absurd rfl z)
  rw [ra_W0] at H
  exact ra_dr0 h H
theorem ra_lawOf (p0 p1 p2 p3 : Int32) : wpL_lawOf (fun r_5 _ => r_5 = 1) 7 2080 () p0 p1 p2 p3 := by
  unfold wpL_lawOf
  refine br_c (fun z => ra_19 (Or.inl z)) (fun z => br_c (fun z1 => ra_19 (Or.inr (Or.inl z1))) (fun z1 => br_c (fun z2 => ra_19 (Or.inr (Or.inr z2))) (fun z2 => ?_)))
  obtain ⟨f, hf, rfl⟩ := nI_of z
  have z3 : ¬ p1 < 0 := by
    rw [Int32.lt_iff_toInt_lt, nI_toInt hf] at z1
    rw [Int32.lt_iff_toInt_lt]
    have e : (0 : Int32).toInt = 0 := by decide
    omega
  obtain ⟨t, ht, rfl⟩ := nI_of z3
  have hft : f ≤ t := by
    rw [nI_ltI ht hf] at z1
    omega
  have ht15 : t ≤ 15 := by
    have z4 : ¬ nI 15 < nI t := z2
    rw [nI_ltI (by omega) ht] at z4
    omega
  obtain ⟨n0, h0, e0⟩ := pk_andE p2 (m := 1) 1 (by decide)
  obtain ⟨n1, h1, e1⟩ := pk_andE p3 (m := 1) 1 (by decide)
  unfold wL_lawOf_20
  refine nm_r e0 (nm_r e1 (br_f (by decide) ?_))
  exact ra_51 (r := (f, t)) ⟨hft, ht15⟩ h0 h1 (ra_tz f (by omega) t (by omega) hft) (fun post rc wc pc ac sc a1 a2 a3 a4 a5 a6 H => ra_dr1 hft ht15 H) (fun z => absurd z (by decide)) (fun _ => ra_te f (by omega))
theorem ra_cell {post : Int32 → Prop} {L : Nat} {xs : Nat → Int32} {k : Nat} (hL : L ≤ 4) (hk : k ≤ 3) (H : ∀ v, post v) : wpL_cellAt post L xs () (nI k) := by
  unfold wpL_cellAt
  exact pk_le L k (fun _ => H _) (fun z => ⟨pk_in k L z, H _⟩)
theorem i_vc (xs : Nat → Int32) (L : Nat) (hL : L ≤ 4) : wpL_law (fun r => r = 1) L xs := by
  unfold wpL_law
  exact ra_cell (k := 0) hL (by omega) (fun r1 => ra_cell (k := 1) hL (by omega) (fun r2 => ra_cell (k := 2) hL (by omega) (fun r3 => ra_cell (k := 3) hL (by omega) (fun r4 => ⟨7, 2080, by omega, by omega, ra_lawOf r1 r2 r3 r4⟩))))
end
