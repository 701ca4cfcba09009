section
/-- an int array that holds naturals -/
def sa_c (f : Nat → Nat) : Nat → Int32 := fun j => nI (f j)
/-- one place written -/
def sa_u (f : Nat → Nat) (k v : Nat) : Nat → Nat := fun j => if j = k then v else f j
theorem sa_us {f : Nat → Nat} {k v : Nat} : sa_u f k v k = v := if_pos rfl
theorem sa_un {f : Nat → Nat} {k v j : Nat} (h : j ≠ k) : sa_u f k v j = f j := if_neg h
theorem sa_cu (f : Nat → Nat) (k v : Nat) : upd (sa_c f) k (nI v) = sa_c (sa_u f k v) := by
  funext j
  by_cases h : j = k
  · rw [h, pk_us]
    show nI v = nI (sa_u f k v k)
    rw [sa_us]
  · rw [pk_un h]
    show nI (f j) = nI (sa_u f k v j)
    rw [sa_un h]
theorem sa_13 (s : Nat) : 13 * nI s = nI (13 * s) := pk_mul 13 s
theorem sa_32 (s : Nat) : 32 * nI s = nI (32 * s) := pk_mul 32 s
theorem sa_ix {s m : Nat} (h : 0 < m) : 13 * nI s + nI m - 1 = nI (13 * s + m - 1) := by
  rw [sa_13, nI_add]
  exact pk_sub (a := 13 * s + m) (b := 1) (by omega)
theorem sa_acc {c a h : Nat} (hh : h ≤ c + a) : nI c + (nI a - nI h) = nI (c + a - h) := by
  have e : nI c + (nI a - nI h) = nI c + nI a - nI h := by grind
  rw [e, nI_add, pk_sub hh]
theorem sa_grI {a b : Nat} (ha : a < 2 ^ 30) (hb : b < 2 ^ 30) : nI a - nI b ≤ 0 ↔ a ≤ b := by
  rw [Int32.le_iff_toInt_le, pk_sub_toInt ha hb]
  show (a : Int) - b ≤ 0 ↔ a ≤ b
  omega
theorem sa_isS {post : Int32 → Prop} {u : St0} {s : Nat} (hs : s < 4) (H : post 1) : wpX_isStream post u (nI s) :=
  br_f (nI_pos (by omega)) (br_f (nI_nlt (a := 3) (b := s) (by omega) (by decide)) H)
theorem sa_limitOf {post : Int32 → Prop} {a1 a3 a4 a5 a6 : Nat → Int32} {rp : Nat → Nat} {s : Nat} (hs : s < 4) (hr : rp s + 24 ≤ 240) (H : post (nI (rp s + 24))) :
    wpX_limitOf post (a1, sa_c rp, a3, a4, a5, a6) (nI s) := by
  unfold wpX_limitOf
  dsimp only
  rw [nI_clamp (show s < 2 ^ 31 by omega)]
  exact ⟨pk_in s 4 hs, nm_r (nI_add (rp s) 24) (pk_le (rp s + 24) 240 (fun _ => H) (fun z => absurd z (by omega)))⟩
/-- the highest of a stream without an end -/
def sa_hg (rp n hi : Nat → Nat) (s : Nat) : Nat := if n s = 0 then rp s else hi (13 * s + n s - 1)
theorem sa_highest {post : Int32 → Prop} {a1 a3 a5 : Nat → Int32} {rp n hi : Nat → Nat} {s : Nat} (hs : s < 4) (h3 : a3 s < 0) (hn : n s ≤ 13) (H : post (nI (sa_hg rp n hi s))) :
    wpX_highest post (a1, sa_c rp, a3, sa_c n, a5, sa_c hi) (nI s) := by
  unfold wpX_highest
  dsimp only
  rw [nI_clamp (show s < 2 ^ 31 by omega)]
  refine sa_isS hs (br_f (by decide) ⟨pk_in s 4 hs, br_t h3 ⟨pk_in s 4 hs, nm_e (pk_le (n s) 0 (fun z => ⟨pk_in s 4 hs, ?_⟩) (fun z => ⟨?_, ?_⟩))⟩⟩)
  · have e : sa_hg rp n hi s = rp s := if_pos (by omega)
    rw [e] at H
    exact H
  · exact pk_in (13 * s + n s - 1) 52 (by omega) (sa_ix z)
  · have e : sa_hg rp n hi s = hi (13 * s + n s - 1) := if_neg (by omega)
    rw [e] at H
    have e2 : (13 * nI s + sa_c n s - 1).toNatClampNeg = 13 * s + n s - 1 := pk_cl (13 * s + n s - 1) (sa_ix z)
    rw [e2]
    exact H
theorem sa_highestE {post : Int32 → Prop} {a1 a2 a3 a4 a5 a6 : Nat → Int32} {s e : Nat} (hs : s < 4) (he : e < 2 ^ 31) (h3 : a3 s = nI e) (H : post (nI e)) :
    wpX_highest post (a1, a2, a3, a4, a5, a6) (nI s) := by
  unfold wpX_highest
  dsimp only
  rw [nI_clamp (show s < 2 ^ 31 by omega)]
  rw [h3]
  exact sa_isS hs (br_f (by decide) ⟨pk_in s 4 hs, br_f (nI_pos he) ⟨pk_in s 4 hs, H⟩⟩)
theorem sa_lastKnown {post : Int32 → Prop} {a1 a3 a5 : Nat → Int32} {rp n hi : Nat → Nat} {s : Nat} (hs : s < 4) (hn : n s ≤ 13) (H : post (nI (sa_hg rp n hi s))) :
    wpX_lastKnown post (a1, sa_c rp, a3, sa_c n, a5, sa_c hi) (nI s) := by
  unfold wpX_lastKnown
  dsimp only
  rw [nI_clamp (show s < 2 ^ 31 by omega)]
  refine ⟨pk_in s 4 hs, nm_e (pk_le (n s) 0 (fun z => ⟨pk_in s 4 hs, ?_⟩) (fun z => ⟨?_, ?_⟩))⟩
  · have e : sa_hg rp n hi s = rp s := if_pos (by omega)
    rw [e] at H
    exact H
  · exact pk_in (13 * s + n s - 1) 52 (by omega) (sa_ix z)
  · have e : sa_hg rp n hi s = hi (13 * s + n s - 1) := if_neg (by omega)
    rw [e] at H
    have e2 : (13 * nI s + sa_c n s - 1).toNatClampNeg = 13 * s + n s - 1 := pk_cl (13 * s + n s - 1) (sa_ix z)
    rw [e2]
    exact H
/-- the credit's running sum -/
def sa_cr (rp n hi : Nat → Nat) : Nat → Nat
  | 0 => 56
  | i + 1 => sa_cr rp n hi i + rp i - sa_hg rp n hi i
/-- what credit needs: no end is set, places in bounds, the running sum never negative -/
def sa_crOk (a3 : Nat → Int32) (rp n hi : Nat → Nat) : Prop := ∀ i, i < 4 → a3 i < 0 ∧ n i ≤ 13 ∧ sa_hg rp n hi i ≤ sa_cr rp n hi i + rp i
theorem sa_credit {post : Int32 → Prop} {a1 a3 a5 : Nat → Int32} {rp n hi : Nat → Nat} (h : sa_crOk a3 rp n hi) (H : post (nI (sa_cr rp n hi 4))) :
    wpX_credit post (a1, sa_c rp, a3, sa_c n, a5, sa_c hi) := by
  unfold wpX_credit
  dsimp only
  refine loop_0 (fun fu i (c : Nat) => wX_credit_5 post a1 (sa_c rp) a3 (sa_c n) a5 (sa_c hi) fu (nI c) (nI i)) (fun i c => c = sa_cr rp n hi i) 4 56 rfl ?_ ?_
  · intro fu c hc
    rw [hc]
    exact pk_le 4 4 (fun _ => H) (fun z => absurd z (by omega))
  · intro fu i c hi4 hc hw
    rw [hc]
    refine pk_le 4 i (fun z => absurd z (by omega)) (fun _ => ?_)
    refine sa_highest hi4 (h i hi4).1 (h i hi4).2.1 ⟨pk_in i 4 hi4, ?_⟩
    rw [nI_clamp (show i < 2 ^ 31 by omega)]
    exact nm_r (sa_acc (h i hi4).2.2) (nm_r (nI_1 i) (hw _ rfl))
theorem sa_mayReach {post : Int32 → Prop} {a1 a3 a5 : Nat → Int32} {rp n hi : Nat → Nat} {s t : Nat} (hs : s < 4) (h : sa_crOk a3 rp n hi) (hr : rp s + 24 ≤ 240) (ht : t ≤ rp s + 24)
    (hg : sa_hg rp n hi s ≤ 1000) (hc : sa_cr rp n hi 4 ≤ 1000) (hgr : t ≤ sa_hg rp n hi s + sa_cr rp n hi 4) (H : post 1) :
    wpX_mayReach post (a1, sa_c rp, a3, sa_c n, a5, sa_c hi) (nI s) (nI t) := by
  unfold wpX_mayReach
  dsimp only
  refine sa_limitOf hs hr (pk_le t (rp s + 24) (fun _ => ?_) (fun z => absurd z (by omega)))
  refine sa_highest hs (h s hs).1 (h s hs).2.1 (nm_e (br_c (fun _ => H) (fun z => ?_)))
  have z' : ¬ t ≤ sa_hg rp n hi s := fun g => z ((sa_grI (by omega) (by omega)).mpr g)
  refine sa_credit h ?_
  rw [pk_sub (show sa_hg rp n hi s ≤ t by omega)]
  exact pk_lt (sa_cr rp n hi 4) (t - sa_hg rp n hi s) (fun g => absurd g (by omega)) (fun _ => H)
end
section
theorem sa_at (f : Nat → Nat) {s : Nat} (h : s < 2 ^ 31) : sa_c f (nI s).toNatClampNeg = nI (f s) := by
  rw [nI_clamp h]
  rfl
theorem sa_at2 (f : Nat → Nat) {a b : Nat} (h : a + b < 2 ^ 31) : sa_c f (nI a + nI b).toNatClampNeg = nI (f (a + b)) := by
  rw [nI_add, nI_clamp h]
  rfl
/-- the places of a stream hold small numbers -/
def sa_bd (n lo hi : Nat → Nat) (s : Nat) : Prop := ∀ k, k < n s → lo (13 * s + k) ≤ 1000 ∧ hi (13 * s + k) ≤ 1000
theorem sa_isK0 {post : Int32 → Prop} {a1 a2 a3 : Nat → Int32} {n lo hi : Nat → Nat} {s x : Nat} (hs : s < 4) (hn : n s ≤ 13) (hx : x ≤ 1000) (hb : sa_bd n lo hi s)
    (h : ∀ k, k < n s → ¬ (lo (13 * s + k) ≤ x ∧ x < hi (13 * s + k))) (H : post 0) :
    wpX_isKnown post (a1, a2, a3, sa_c n, sa_c lo, sa_c hi) (nI s) (nI x) := by
  unfold wpX_isKnown
  dsimp only
  refine nm_r (sa_13 s) ?_
  refine loop_0 (σ := Unit) (fun fu k _ => wX_isKnown_5 post (nI s) (nI x) a1 a2 a3 (sa_c n) (sa_c lo) (sa_c hi) fu (nI (13 * s + k))) (fun _ _ => True) (n s) () trivial ?_ ?_
  · intro fu _ _
    refine ⟨pk_in s 4 hs, pk_le (13 * s + n s) (13 * s + n s) (fun _ => H) (fun z => absurd z (by omega)) (by rw [sa_at n (by omega), sa_13, nI_add])⟩
  · intro fu k _ hk _ hw
    have hbk := hb k hk
    have hhk := h k hk
    refine ⟨pk_in s 4 hs, pk_le (13 * s + n s) (13 * s + k) (fun z => absurd z (by omega)) (fun _ => ?_) (by rw [sa_at n (by omega), sa_13, nI_add])⟩
    refine ⟨pk_in (13 * s + k) 52 (by omega), pk_lt x (lo (13 * s + k)) (fun z => ?_) (fun z => ?_) rfl (sa_at lo (by omega))⟩
    · exact nm_r (nI_1 (13 * s + k)) (hw () trivial)
    · exact ⟨pk_in (13 * s + k) 52 (by omega), pk_le (hi (13 * s + k)) x (fun _ => nm_r (nI_1 (13 * s + k)) (hw () trivial)) (fun z2 => absurd ⟨z, z2⟩ hhk) (sa_at hi (by omega))⟩
theorem sa_isK1 {post : Int32 → Prop} {a1 a2 a3 : Nat → Int32} {n lo hi : Nat → Nat} {s x : Nat} (hs : s < 4) (hn : n s ≤ 13) (hx : x ≤ 1000) (hb : sa_bd n lo hi s)
    (h : ∃ k, k < n s ∧ (lo (13 * s + k) ≤ x ∧ x < hi (13 * s + k))) (H : post 1) :
    wpX_isKnown post (a1, a2, a3, sa_c n, sa_c lo, sa_c hi) (nI s) (nI x) := by
  obtain ⟨e, he, hl⟩ := pk_least (fun k => k < n s ∧ (lo (13 * s + k) ≤ x ∧ x < hi (13 * s + k))) h
  unfold wpX_isKnown
  dsimp only
  refine nm_r (sa_13 s) ?_
  have he1 := he.1
  refine loop_0 (σ := Unit) (fun fu k _ => wX_isKnown_5 post (nI s) (nI x) a1 a2 a3 (sa_c n) (sa_c lo) (sa_c hi) fu (nI (13 * s + k))) (fun _ _ => True) e () trivial ?_ ?_
  · intro fu _ _
    have hbk := hb e he1
    have hhk := he.2
    refine ⟨pk_in s 4 hs, pk_le (13 * s + n s) (13 * s + e) (fun z => absurd z (by omega)) (fun _ => ?_) (by rw [sa_at n (by omega), sa_13, nI_add])⟩
    refine ⟨pk_in (13 * s + e) 52 (by omega), pk_lt x (lo (13 * s + e)) (fun z => absurd z (by omega)) (fun z => ?_) rfl (sa_at lo (by omega))⟩
    exact ⟨pk_in (13 * s + e) 52 (by omega), pk_le (hi (13 * s + e)) x (fun z => absurd z (by omega)) (fun z2 => H) (sa_at hi (by omega))⟩
  · intro fu k _ hk _ hw
    have hbk := hb k (by omega)
    have hhk : ¬ (lo (13 * s + k) ≤ x ∧ x < hi (13 * s + k)) := fun g => hl k hk ⟨by omega, g⟩
    refine ⟨pk_in s 4 hs, pk_le (13 * s + n s) (13 * s + k) (fun z => absurd z (by omega)) (fun _ => ?_) (by rw [sa_at n (by omega), sa_13, nI_add])⟩
    refine ⟨pk_in (13 * s + k) 52 (by omega), pk_lt x (lo (13 * s + k)) (fun z => ?_) (fun z => ?_) rfl (sa_at lo (by omega))⟩
    · exact nm_r (nI_1 (13 * s + k)) (hw () trivial)
    · exact ⟨pk_in (13 * s + k) 52 (by omega), pk_le (hi (13 * s + k)) x (fun _ => nm_r (nI_1 (13 * s + k)) (hw () trivial)) (fun z2 => absurd ⟨z, z2⟩ hhk) (sa_at hi (by omega))⟩
/-- places x .. e-1 moved down by g -/
def sa_dn (f : Nat → Nat) (x e g : Nat) : Nat → Nat := fun j => if x ≤ j ∧ j < e then f (j + g) else f j
theorem sa_dn0 (f : Nat → Nat) (x g : Nat) : sa_dn f x x g = f := by
  funext j
  exact if_neg (by omega)
theorem sa_dnS (f : Nat → Nat) {x b k g : Nat} (hx : x ≤ b + k) (hb : b + k + g < 2 ^ 31) :
    upd (sa_c (sa_dn f x (b + k) g)) (nI b + nI k).toNatClampNeg (sa_c (sa_dn f x (b + k) g) (nI b + nI k + nI g).toNatClampNeg) = sa_c (sa_dn f x (b + (k + 1)) g) := by
  rw [nI_add, nI_add, nI_clamp (show b + k < 2 ^ 31 by omega), nI_clamp hb]
  funext j
  by_cases h : j = b + k
  · rw [h, pk_us]
    show nI (sa_dn f x (b + k) g (b + k + g)) = nI (sa_dn f x (b + (k + 1)) g (b + k))
    congr 1
    unfold sa_dn
    rw [if_neg (by omega), if_pos (by omega)]
  · rw [pk_un h]
    show nI (sa_dn f x (b + k) g j) = nI (sa_dn f x (b + (k + 1)) g j)
    congr 1
    unfold sa_dn
    by_cases c : x ≤ j ∧ j < b + k
    · rw [if_pos c, if_pos (by omega)]
    · rw [if_neg c, if_neg (by omega)]
theorem sa_drop {post : St2 → Prop} {a1 a2 a3 : Nat → Int32} {n lo hi : Nat → Nat} {s f t : Nat} (hs : s < 4) (hn : n s ≤ 13) (hf : f ≤ t) (ht : t ≤ n s)
    (H : post (a1, a2, a3, sa_c (sa_u n s (n s - (t - f))), sa_c (sa_dn lo (13 * s + f) (13 * s + (n s - (t - f))) (t - f)), sa_c (sa_dn hi (13 * s + f) (13 * s + (n s - (t - f))) (t - f)))) :
    wpX_dropRanges post (a1, a2, a3, sa_c n, sa_c lo, sa_c hi) (nI s) (nI f) (nI t) := by
  unfold wpX_dropRanges
  dsimp only
  refine nm_r (sa_13 s) (nm_r (pk_sub hf) ?_)
  refine pk_loop (fun fu k (st : (Nat → Int32) × (Nat → Int32)) => wX_dropRanges_14 post (nI s) (nI (13 * s)) (nI (t - f)) fu (nI k) a1 a2 a3 (sa_c n) st.1 st.2)
    (fun k st => f ≤ k ∧ st = (sa_c (sa_dn lo (13 * s + f) (13 * s + k) (t - f)), sa_c (sa_dn hi (13 * s + f) (13 * s + k) (t - f)))) (n s - (t - f)) f (sa_c lo, sa_c hi) (by omega) ⟨Nat.le_refl f, by rw [sa_dn0, sa_dn0]⟩ ?_ ?_
  · intro fu st hst
    rw [hst.2]
    refine ⟨pk_in s 4 hs, pk_le (n s) (n s - (t - f) + (t - f)) (fun _ => ⟨pk_in s 4 hs, pk_in s 4 hs, nm_r ?_ H⟩) (fun z => absurd z (by omega)) (sa_at n (by omega)) (nI_add _ _)⟩
    rw [sa_at n (by omega), pk_sub (by omega), nI_clamp (by omega), sa_cu]
  · intro fu k st hk hst hw
    have hkf := hst.1
    rw [hst.2]
    refine ⟨pk_in s 4 hs, pk_le (n s) (k + (t - f)) (fun z => absurd z (by omega)) (fun _ => ?_) (sa_at n (by omega)) (nI_add _ _)⟩
    refine ⟨pk_in (13 * s + k + (t - f)) 52 (by omega) (by rw [nI_add, nI_add]), pk_in (13 * s + k) 52 (by omega) (nI_add _ _), nm_r (sa_dnS lo (by omega) (by omega)) ?_⟩
    refine ⟨pk_in (13 * s + k + (t - f)) 52 (by omega) (by rw [nI_add, nI_add]), pk_in (13 * s + k) 52 (by omega) (nI_add _ _), nm_r (sa_dnS hi (by omega) (by omega)) ?_⟩
    exact nm_r (nI_1 k) (hw (_, _) ⟨by omega, rfl⟩)
/-- places x+1 .. e moved up by one -/
def sa_ups (f : Nat → Nat) (x e : Nat) : Nat → Nat := fun j => if x < j ∧ j ≤ e then f (j - 1) else f j
theorem sa_ups0 (f : Nat → Nat) (x : Nat) : sa_ups f x x = f := by
  funext j
  exact if_neg (by omega)
theorem sa_upsS (f : Nat → Nat) {b k e : Nat} (hx : b + (k + 1) ≤ e) (hb : b + (k + 1) < 2 ^ 31) :
    upd (sa_c (sa_ups f (b + (k + 1)) e)) (nI b + nI (k + 1)).toNatClampNeg (sa_c (sa_ups f (b + (k + 1)) e) (nI b + nI (k + 1) - 1).toNatClampNeg) = sa_c (sa_ups f (b + k) e) := by
  have e1 : nI b + nI (k + 1) - 1 = nI (b + k) := by
    rw [nI_add]
    exact nI_pred (b + k)
  rw [e1, nI_add, nI_clamp hb, nI_clamp (show b + k < 2 ^ 31 by omega)]
  funext j
  by_cases h : j = b + (k + 1)
  · rw [h, pk_us]
    show nI (sa_ups f (b + (k + 1)) e (b + k)) = nI (sa_ups f (b + k) e (b + (k + 1)))
    congr 1
    unfold sa_ups
    rw [if_neg (by omega), if_pos (by omega)]
    rfl
  · rw [pk_un h]
    show nI (sa_ups f (b + (k + 1)) e j) = nI (sa_ups f (b + k) e j)
    congr 1
    unfold sa_ups
    by_cases c : b + (k + 1) < j ∧ j ≤ e
    · rw [if_pos c, if_pos (by omega)]
    · rw [if_neg c, if_neg (by omega)]
theorem sa_open {post : St2 → Prop} {a1 a2 a3 : Nat → Int32} {n lo hi : Nat → Nat} {s p : Nat} (hs : s < 4) (hn : n s ≤ 12) (hp : p ≤ n s)
    (H : post (a1, a2, a3, sa_c (sa_u n s (n s + 1)), sa_c (sa_ups lo (13 * s + p) (13 * s + n s)), sa_c (sa_ups hi (13 * s + p) (13 * s + n s)))) :
    wpX_openRange post (a1, a2, a3, sa_c n, sa_c lo, sa_c hi) (nI s) (nI p) := by
  unfold wpX_openRange
  dsimp only
  refine nm_r (sa_13 s) ⟨pk_in s 4 hs, nm_r (sa_at n (by omega)) ⟨n s - p + 1, ?_⟩⟩
  have L := pk_loopD (fun fu i (st : (Nat → Int32) × (Nat → Int32)) => wX_openRange_13 post (nI s) (nI p) (nI (13 * s)) fu (nI (p + i)) a1 a2 a3 (sa_c n) st.1 st.2)
    (fun i st => p + i ≤ n s ∧ st = (sa_c (sa_ups lo (13 * s + (p + i)) (13 * s + n s)), sa_c (sa_ups hi (13 * s + (p + i)) (13 * s + n s)))) ?_ ?_ (n s - p) (sa_c lo, sa_c hi) ⟨by omega, ?_⟩
  · have e : p + (n s - p) = n s := by omega
    dsimp only at L
    rw [e] at L
    exact L
  · intro fu st hst
    rw [hst.2]
    refine pk_le p p (fun _ => ⟨pk_in s 4 hs, pk_in s 4 hs, nm_r ?_ H⟩) (fun z => absurd z (by omega))
    rw [sa_at n (by omega), nI_1, nI_clamp (by omega), sa_cu]
  · intro fu i st hst hw
    have hle := hst.1
    rw [hst.2]
    refine pk_le (p + (i + 1)) p (fun z => absurd z (by omega)) (fun _ => ?_)
    have e1 : nI (13 * s) + nI (p + (i + 1)) - 1 = nI (13 * s + (p + i)) := by
      rw [nI_add]
      exact nI_pred (13 * s + (p + i))
    refine ⟨pk_in (13 * s + (p + i)) 52 (by omega) e1, pk_in (13 * s + (p + (i + 1))) 52 (by omega) (nI_add _ _), nm_r (sa_upsS lo (k := p + i) (by omega) (by omega)) ?_⟩
    refine ⟨pk_in (13 * s + (p + i)) 52 (by omega) e1, pk_in (13 * s + (p + (i + 1))) 52 (by omega) (nI_add _ _), nm_r (sa_upsS hi (k := p + i) (by omega) (by omega)) ?_⟩
    exact nm_r (pk_m1 (p + i)) (hw (_, _) ⟨by omega, rfl⟩)
  · have e : p + (n s - p) = n s := by omega
    rw [e, sa_ups0, sa_ups0]
end
section
/-- the first place whose range isn't wholly below f -/
def sa_ff (hi : Nat → Nat) (b f : Nat) : Nat → Nat
  | 0 => 0
  | k + 1 => if hi (b + k) < f then k + 1 else sa_ff hi b f k
theorem sa_ff_le (hi : Nat → Nat) (b f k : Nat) : sa_ff hi b f k ≤ k := by
  induction k with
  | zero => exact Nat.le_refl 0
  | succ k ih =>
    unfold sa_ff
    by_cases c : hi (b + k) < f
    · rw [if_pos c]
      omega
    · rw [if_neg c]
      omega
/-- the joining loop: last, new low, new high behind i turns from place e on -/
def sa_f2 (lo hi : Nat → Nat) (b f t e : Nat) : Nat → Nat × Nat × Nat
  | 0 => (e, f, t)
  | i + 1 => if lo (b + (e + i)) ≤ t then (e + i + 1, min (lo (b + (e + i))) (sa_f2 lo hi b f t e i).2.1, max (hi (b + (e + i))) (sa_f2 lo hi b f t e i).2.2) else sa_f2 lo hi b f t e i
/-- the place at which a range goes in, and what the joining loop leaves -/
def sa_e (n hi : Nat → Nat) (s f : Nat) : Nat := sa_ff hi (13 * s) f (n s)
def sa_r (n lo hi : Nat → Nat) (s f t : Nat) : Nat × Nat × Nat := sa_f2 lo hi (13 * s) f t (sa_e n hi s f) (n s - sa_e n hi s f)
/-- addRange: the three arrays behind it -/
def sa_an (n lo hi : Nat → Nat) (s f t : Nat) : Nat → Nat :=
  sa_u n s (if sa_e n hi s f = (sa_r n lo hi s f t).1 then n s + 1 else n s - ((sa_r n lo hi s f t).1 - (sa_e n hi s f + 1)))
def sa_mv (g n lo hi : Nat → Nat) (s f t : Nat) : Nat → Nat :=
  if sa_e n hi s f = (sa_r n lo hi s f t).1 then sa_ups g (13 * s + sa_e n hi s f) (13 * s + n s)
  else sa_dn g (13 * s + (sa_e n hi s f + 1)) (13 * s + (n s - ((sa_r n lo hi s f t).1 - (sa_e n hi s f + 1)))) ((sa_r n lo hi s f t).1 - (sa_e n hi s f + 1))
def sa_al (n lo hi : Nat → Nat) (s f t : Nat) : Nat → Nat := sa_u (sa_mv lo n lo hi s f t) (13 * s + sa_e n hi s f) (sa_r n lo hi s f t).2.1
def sa_ah (n lo hi : Nat → Nat) (s f t : Nat) : Nat → Nat := sa_u (sa_mv hi n lo hi s f t) (13 * s + sa_e n hi s f) (sa_r n lo hi s f t).2.2
theorem sa_197 {post : St2 → Prop} {a1 a2 a3 a4 : Nat → Int32} {lo hi : Nat → Nat} {b f nl nh : Nat} (hb : b + f < 52)
    (H : post (a1, a2, a3, a4, sa_c (sa_u lo (b + f) nl), sa_c (sa_u hi (b + f) nh))) :
    wX_addRange_197 post (nI b) (nI f) (nI nl) (nI nh) a1 a2 a3 a4 (sa_c lo) (sa_c hi) := by
  have e : (nI b + nI f).toNatClampNeg = b + f := pk_cl (b + f) (nI_add b f)
  unfold wX_addRange_197
  rw [e]
  exact ⟨pk_in (b + f) 52 hb (nI_add b f), nm_r (sa_cu lo _ nl) ⟨pk_in (b + f) 52 hb (nI_add b f), nm_r (sa_cu hi _ nh) H⟩⟩
theorem sa_123 {post : St2 → Prop} {J : Int32 → Int32 → Int32 → Int32 → Prop} {x1 x3 x5 x6 z0 : Int32} {a1 a2 a3 a4 a5 : Nat → Int32} {hi : Nat → Nat} {b k nh : Nat} (hb : b + k < 52) (hh : hi (b + k) ≤ 1000) (hnh : nh ≤ 1000)
    (H : J (nI (k + 1)) z0 (nI (max (hi (b + k)) nh)) (nI (k + 1))) :
    wX_addRange_123 post J x1 x3 (nI b) x5 x6 (nI nh) (nI k) z0 a1 a2 a3 a4 a5 (sa_c hi) := by
  unfold wX_addRange_123
  refine ⟨pk_in (b + k) 52 hb (nI_add b k), pk_le (hi (b + k)) nh (fun z => ?_) (fun z => ?_) (sa_at2 hi (by omega))⟩
  · rw [show max (hi (b + k)) nh = nh by omega] at H
    exact nm_r (nI_1 k) (nm_r (nI_1 k) H)
  · rw [show max (hi (b + k)) nh = hi (b + k) by omega] at H
    exact ⟨pk_in (b + k) 52 hb (nI_add b k), nm_r (sa_at2 hi (by omega)) (nm_r (nI_1 k) (nm_r (nI_1 k) H))⟩
theorem sa_add72 {post : St2 → Prop} {a1 a2 a3 : Nat → Int32} {n lo hi : Nat → Nat} {s f t e : Nat} (hs : s < 4) (hn : n s ≤ 12) (hf : f ≤ 1000) (ht : t ≤ 1000) (hb : sa_bd n lo hi s) (he : e ≤ n s)
    (H : ∀ r : Nat × Nat × Nat, r = sa_f2 lo hi (13 * s) f t e (n s - e) → e ≤ r.1 → r.1 ≤ n s →
      ((e = r.1 → post (a1, a2, a3, sa_c (sa_u n s (n s + 1)), sa_c (sa_u (sa_ups lo (13 * s + e) (13 * s + n s)) (13 * s + e) r.2.1), sa_c (sa_u (sa_ups hi (13 * s + e) (13 * s + n s)) (13 * s + e) r.2.2))) ∧
       (¬ e = r.1 → post (a1, a2, a3, sa_c (sa_u n s (n s - (r.1 - (e + 1)))), sa_c (sa_u (sa_dn lo (13 * s + (e + 1)) (13 * s + (n s - (r.1 - (e + 1)))) (r.1 - (e + 1))) (13 * s + e) r.2.1),
          sa_c (sa_u (sa_dn hi (13 * s + (e + 1)) (13 * s + (n s - (r.1 - (e + 1)))) (r.1 - (e + 1))) (13 * s + e) r.2.2))))) :
    ∃ fu, wX_addRange_72 post (nI s) (nI t) (nI (13 * s)) (nI (n s)) (nI e) a1 a2 a3 (sa_c n) (sa_c lo) (sa_c hi) fu (nI e) (nI f) (nI t) (nI e) := by
  refine loop_0 (fun fu i (st : Nat × Nat × Nat) => wX_addRange_72 post (nI s) (nI t) (nI (13 * s)) (nI (n s)) (nI e) a1 a2 a3 (sa_c n) (sa_c lo) (sa_c hi) fu (nI st.1) (nI st.2.1) (nI st.2.2) (nI (e + i)))
    (fun i st => st = sa_f2 lo hi (13 * s) f t e i ∧ e ≤ st.1 ∧ st.1 ≤ e + i ∧ st.2.1 ≤ 1000 ∧ st.2.2 ≤ 1000) (n s - e) (e, f, t) ⟨rfl, Nat.le_refl e, Nat.le_refl e, hf, ht⟩ ?_ ?_
  · intro fu st hst
    obtain ⟨h0, h1, h2, h3, h4⟩ := hst
    have Hr := H st h0 h1 (by omega)
    refine pk_le (n s) (e + (n s - e)) (fun _ => ?_) (fun z => absurd z (by omega))
    refine pk_eq e st.1 (fun z => ?_) (fun z => ?_)
    · exact sa_open hs hn he (sa_197 (by omega) (Hr.1 z))
    · rw [nI_1]
      exact sa_drop hs (by omega) (by omega) (by omega) (sa_197 (by omega) (Hr.2 z))
  · intro fu i st hi4 hst hw
    obtain ⟨h0, h1, h2, h3, h4⟩ := hst
    have hbk := hb (e + i) (by omega)
    refine pk_le (n s) (e + i) (fun z => absurd z (by omega)) (fun _ => ⟨pk_in (13 * s + (e + i)) 52 (by omega) (nI_add _ _), ?_⟩)
    refine pk_lt t (lo (13 * s + (e + i))) (fun z => ?_) (fun z => ⟨pk_in (13 * s + (e + i)) 52 (by omega) (nI_add _ _), ?_⟩) rfl (sa_at2 lo (by omega))
    · have eq : sa_f2 lo hi (13 * s) f t e (i + 1) = sa_f2 lo hi (13 * s) f t e i := if_neg (by omega)
      exact nm_r (nI_1 (e + i)) (hw st ⟨by rw [eq, h0], h1, by omega, h3, h4⟩)
    · have eq : sa_f2 lo hi (13 * s) f t e (i + 1) = (e + i + 1, min (lo (13 * s + (e + i))) (sa_f2 lo hi (13 * s) f t e i).2.1, max (hi (13 * s + (e + i))) (sa_f2 lo hi (13 * s) f t e i).2.2) := if_pos (by omega)
      have W2 := hw (e + i + 1, min (lo (13 * s + (e + i))) st.2.1, max (hi (13 * s + (e + i))) st.2.2) ⟨by rw [eq, h0], by dsimp only; omega, by dsimp only; omega, by dsimp only; omega, by dsimp only; omega⟩
      refine pk_le st.2.1 (lo (13 * s + (e + i))) (fun z2 => ?_) (fun z2 => ⟨pk_in (13 * s + (e + i)) 52 (by omega) (nI_add _ _), ?_⟩) rfl (sa_at2 lo (by omega))
      · refine sa_123 (by omega) (by omega) h4 ?_
        rw [show min (lo (13 * s + (e + i))) st.2.1 = st.2.1 by omega] at W2
        exact W2
      · rw [sa_at2 lo (show 13 * s + (e + i) < 2 ^ 31 by omega)]
        refine sa_123 (by omega) (by omega) h4 ?_
        rw [show min (lo (13 * s + (e + i))) st.2.1 = lo (13 * s + (e + i)) by omega] at W2
        exact W2
theorem sa_addRange {post : St2 → Prop} {a1 a2 a3 : Nat → Int32} {n lo hi : Nat → Nat} {s f t : Nat} (hs : s < 4) (hn : n s ≤ 12) (hf : f ≤ 1000) (ht : t ≤ 1000) (hb : sa_bd n lo hi s)
    (H : post (a1, a2, a3, sa_c (sa_an n lo hi s f t), sa_c (sa_al n lo hi s f t), sa_c (sa_ah n lo hi s f t))) :
    wpX_addRange post (a1, a2, a3, sa_c n, sa_c lo, sa_c hi) (nI s) (nI f) (nI t) := by
  unfold wpX_addRange
  dsimp only
  refine nm_r (sa_13 s) ⟨pk_in s 4 hs, nm_r (sa_at n (by omega)) ?_⟩
  refine loop_0 (fun fu k (c : Nat) => wX_addRange_20 post (nI s) (nI f) (nI t) (nI (13 * s)) (nI (n s)) a1 a2 a3 (sa_c n) (sa_c lo) (sa_c hi) fu (nI c) (nI k)) (fun k c => c = sa_ff hi (13 * s) f k) (n s) 0 rfl ?_ ?_
  · intro fu c hc
    have hle := sa_ff_le hi (13 * s) f (n s)
    refine pk_le (n s) (n s) (fun _ => ?_) (fun z => absurd z (by omega))
    refine sa_add72 hs hn hf ht hb (by omega) (fun r hr h1 h2 => ⟨fun g => ?_, fun g => ?_⟩)
    · have er : r = sa_r n lo hi s f t := by
        rw [hr, hc]
        rfl
      have ee : c = sa_e n hi s f := hc
      rw [er, ee] at g
      rw [er, ee]
      have e1 : sa_an n lo hi s f t = sa_u n s (n s + 1) := congrArg (sa_u n s) (if_pos g)
      have e2 : sa_al n lo hi s f t = sa_u (sa_ups lo (13 * s + sa_e n hi s f) (13 * s + n s)) (13 * s + sa_e n hi s f) (sa_r n lo hi s f t).2.1 := congrArg (fun z => sa_u z (13 * s + sa_e n hi s f) (sa_r n lo hi s f t).2.1) (if_pos g)
      have e3 : sa_ah n lo hi s f t = sa_u (sa_ups hi (13 * s + sa_e n hi s f) (13 * s + n s)) (13 * s + sa_e n hi s f) (sa_r n lo hi s f t).2.2 := congrArg (fun z => sa_u z (13 * s + sa_e n hi s f) (sa_r n lo hi s f t).2.2) (if_pos g)
      rw [e1, e2, e3] at H
      exact H
    · have er : r = sa_r n lo hi s f t := by
        rw [hr, hc]
        rfl
      have ee : c = sa_e n hi s f := hc
      rw [er, ee] at g
      rw [er, ee]
      have e1 : sa_an n lo hi s f t = sa_u n s (n s - ((sa_r n lo hi s f t).1 - (sa_e n hi s f + 1))) := congrArg (sa_u n s) (if_neg g)
      have e2 : sa_al n lo hi s f t = sa_u (sa_dn lo (13 * s + (sa_e n hi s f + 1)) (13 * s + (n s - ((sa_r n lo hi s f t).1 - (sa_e n hi s f + 1)))) ((sa_r n lo hi s f t).1 - (sa_e n hi s f + 1))) (13 * s + sa_e n hi s f) (sa_r n lo hi s f t).2.1 := congrArg (fun z => sa_u z (13 * s + sa_e n hi s f) (sa_r n lo hi s f t).2.1) (if_neg g)
      have e3 : sa_ah n lo hi s f t = sa_u (sa_dn hi (13 * s + (sa_e n hi s f + 1)) (13 * s + (n s - ((sa_r n lo hi s f t).1 - (sa_e n hi s f + 1)))) ((sa_r n lo hi s f t).1 - (sa_e n hi s f + 1))) (13 * s + sa_e n hi s f) (sa_r n lo hi s f t).2.2 := congrArg (fun z => sa_u z (13 * s + sa_e n hi s f) (sa_r n lo hi s f t).2.2) (if_neg g)
      rw [e1, e2, e3] at H
      exact H
  · intro fu k c hk hc hw
    have hbk := hb k hk
    refine pk_le (n s) k (fun z => absurd z (by omega)) (fun _ => ⟨pk_in (13 * s + k) 52 (by omega) (nI_add _ _), ?_⟩)
    refine pk_le f (hi (13 * s + k)) (fun z => ?_) (fun z => ?_) rfl (sa_at2 hi (by omega))
    · have eq : sa_ff hi (13 * s) f (k + 1) = sa_ff hi (13 * s) f k := if_neg (by omega)
      exact nm_r (nI_1 k) (hw c (by rw [eq, hc]))
    · have eq : sa_ff hi (13 * s) f (k + 1) = k + 1 := if_pos z
      exact nm_r (nI_1 k) (nm_r (nI_1 k) (hw (k + 1) eq.symm))
end
section
/-- byte j of a piece -/
def sa_v (b : Int32) (j : Nat) : Int32 := (b >>> ((8 * nI j) &&& 31)) &&& 255
/-- the ring behind i bytes written from place x0 on -/
def sa_w (a1 : Nat → Int32) (x0 : Nat) (b : Int32) (i : Nat) : Nat → Int32 := fun x => if x0 ≤ x ∧ x < x0 + i then sa_v b (x - x0) else a1 x
theorem sa_w0 (a1 : Nat → Int32) (x0 : Nat) (b : Int32) : sa_w a1 x0 b 0 = a1 := by
  funext x
  exact if_neg (by omega)
theorem sa_wS (a1 : Nat → Int32) (x0 : Nat) (b : Int32) (i : Nat) : upd (sa_w a1 x0 b i) (x0 + i) (sa_v b i) = sa_w a1 x0 b (i + 1) := by
  funext x
  by_cases h : x = x0 + i
  · rw [h, pk_us]
    unfold sa_w
    rw [if_pos (by omega), show x0 + i - x0 = i by omega]
  · rw [pk_un h]
    unfold sa_w
    by_cases c : x0 ≤ x ∧ x < x0 + i
    · rw [if_pos c, if_pos (by omega)]
    · rw [if_neg c, if_neg (by omega)]
theorem sa_rix {s x : Nat} (hx : x < 32) : 32 * nI s + (nI x &&& 31) = nI (32 * s + x) := by
  rw [sa_32, pk_andN (n := x) (m := 31) (by omega) 5 rfl, nI_add, Nat.mod_eq_of_lt (show x < 2 ^ 5 by omega)]
theorem sa_loopU {post : Int32 → St2 → Prop} {a1 a2 a3 : Nat → Int32} {n lo hi : Nat → Nat} {s o len : Nat} {b : Int32} (hs : s < 4) (hn : n s ≤ 12) (hb : sa_bd n lo hi s) (h1 : 1 ≤ len) (ho : o + len ≤ 32)
    (hk : ∀ i, i < len → ∀ k, k < n s → ¬ (lo (13 * s + k) ≤ o + i ∧ o + i < hi (13 * s + k)))
    (H : post (nI len) (sa_w a1 (32 * s + o) b len, a2, a3, sa_c (sa_an n lo hi s o (o + len)), sa_c (sa_al n lo hi s o (o + len)), sa_c (sa_ah n lo hi s o (o + len)))) :
    ∃ fu, wX_piece_100 post (nI s) (nI o) b (nI (o + len)) (nI o) fu 0 (nI o) a1 a2 a3 (sa_c n) (sa_c lo) (sa_c hi) := by
  refine loop_0 (fun fu i a => wX_piece_100 post (nI s) (nI o) b (nI (o + len)) (nI o) fu (nI i) (nI (o + i)) a a2 a3 (sa_c n) (sa_c lo) (sa_c hi)) (fun i a => a = sa_w a1 (32 * s + o) b i) len a1 (sa_w0 _ _ _).symm ?_ ?_
  · intro fu a ha
    rw [ha]
    refine pk_le (o + len) (o + len) (fun _ => ?_) (fun z => absurd z (by omega))
    refine pk_le (o + len) o (fun z => absurd z (by omega)) (fun _ => ?_)
    exact sa_addRange hs hn (by omega) (by omega) hb H
  · intro fu i a hi4 ha hw
    rw [ha]
    refine pk_le (o + len) (o + i) (fun z => absurd z (by omega)) (fun _ => ?_)
    refine sa_isK0 hs (by omega) (by omega) hb (hk i hi4) (br_t rfl ⟨pk_in (32 * s + (o + i)) 128 (by omega) (sa_rix (by omega)), nm_r ?_ (nm_r (nI_1 i) (nm_r (nI_1 (o + i)) (hw _ rfl)))⟩)
    rw [← sa_wS, sa_rix (show o + i < 32 by omega), nI_clamp (by omega), pk_sub (by omega), show o + i - o = i by omega, Nat.add_assoc]
    rfl
theorem sa_loopK {post : Int32 → St2 → Prop} {a1 a2 a3 : Nat → Int32} {n lo hi : Nat → Nat} {s o len : Nat} {b : Int32} (hs : s < 4) (hn : n s ≤ 12) (hb : sa_bd n lo hi s) (h1 : 1 ≤ len) (ho : o + len ≤ 32)
    (hk : ∀ i, i < len → ∃ k, k < n s ∧ (lo (13 * s + k) ≤ o + i ∧ o + i < hi (13 * s + k)))
    (H : post 0 (a1, a2, a3, sa_c (sa_an n lo hi s o (o + len)), sa_c (sa_al n lo hi s o (o + len)), sa_c (sa_ah n lo hi s o (o + len)))) :
    ∃ fu, wX_piece_100 post (nI s) (nI o) b (nI (o + len)) (nI o) fu 0 (nI o) a1 a2 a3 (sa_c n) (sa_c lo) (sa_c hi) := by
  refine loop_0 (σ := Unit) (fun fu i _ => wX_piece_100 post (nI s) (nI o) b (nI (o + len)) (nI o) fu 0 (nI (o + i)) a1 a2 a3 (sa_c n) (sa_c lo) (sa_c hi)) (fun _ _ => True) len () trivial ?_ ?_
  · intro fu _ _
    refine pk_le (o + len) (o + len) (fun _ => ?_) (fun z => absurd z (by omega))
    refine pk_le (o + len) o (fun z => absurd z (by omega)) (fun _ => ?_)
    exact sa_addRange hs hn (by omega) (by omega) hb H
  · intro fu i _ hi4 _ hw
    refine pk_le (o + len) (o + i) (fun z => absurd z (by omega)) (fun _ => ?_)
    exact sa_isK1 hs (by omega) (by omega) hb (hk i hi4) (br_f (by decide) (nm_r (nI_1 (o + i)) (hw () trivial)))
/-- what a piece (and a finish) needs of the limits -/
def sa_may (a3 : Nat → Int32) (rp n hi : Nat → Nat) (s t : Nat) : Prop :=
  sa_crOk a3 rp n hi ∧ rp s + 24 ≤ 240 ∧ t ≤ rp s + 24 ∧ sa_hg rp n hi s ≤ 1000 ∧ sa_cr rp n hi 4 ≤ 1000 ∧ t ≤ sa_hg rp n hi s + sa_cr rp n hi 4
theorem sa_front {post : Int32 → St2 → Prop} {a1 a3 a5 : Nat → Int32} {rp n hi : Nat → Nat} {s o len : Nat} {b : Int32} (hs : s < 4) (h1 : 1 ≤ len) (h4 : len ≤ 4) (ho : o ≤ 1000) (hro : rp s ≤ o) (hm : sa_may a3 rp n hi s (o + len))
    (H : ∃ fu, wX_piece_100 post (nI s) (nI o) b (nI (o + len)) (nI o) fu 0 (nI o) a1 (sa_c rp) a3 (sa_c n) a5 (sa_c hi)) :
    wpX_piece post (a1, sa_c rp, a3, sa_c n, a5, sa_c hi) (nI s) (nI o) (nI len) b := by
  obtain ⟨m1, m2, m3, m4, m5, m6⟩ := hm
  unfold wpX_piece
  dsimp only
  refine sa_isS hs (br_f (by decide) (pk_lt len 1 (fun z => absurd z (by omega)) (fun _ => pk_lt 4 len (fun z => absurd z (by omega)) (fun _ => pk_lt o 0 (fun z => absurd z (by omega)) (fun _ => pk_le o 1000 (fun _ => ?_) (fun z => absurd z (by omega)))))))
  refine nm_r (nI_add o len) ⟨pk_in s 4 hs, br_t (by rw [nI_clamp (show s < 2 ^ 31 by omega)]; exact (m1 s hs).1) ?_⟩
  unfold wX_piece_58
  refine sa_mayReach hs m1 m2 m3 m4 m5 m6 (br_f (by decide) ⟨pk_in s 4 hs, pk_le o (rp s) (fun z => ⟨pk_in s 4 hs, nm_r (e' := nI o) ?_ H⟩) (fun _ => H) rfl (sa_at rp (by omega))⟩)
  rw [sa_at rp (by omega), show rp s = o by omega]
theorem sa_pieceU {post : Int32 → St2 → Prop} {a1 a3 : Nat → Int32} {rp n lo hi : Nat → Nat} {s o len : Nat} {b : Int32} (hs : s < 4) (h1 : 1 ≤ len) (h4 : len ≤ 4) (ho : o + len ≤ 32) (hro : rp s ≤ o) (hm : sa_may a3 rp n hi s (o + len))
    (hn : n s ≤ 12) (hb : sa_bd n lo hi s) (hk : ∀ i, i < len → ∀ k, k < n s → ¬ (lo (13 * s + k) ≤ o + i ∧ o + i < hi (13 * s + k)))
    (H : post (nI len) (sa_w a1 (32 * s + o) b len, sa_c rp, a3, sa_c (sa_an n lo hi s o (o + len)), sa_c (sa_al n lo hi s o (o + len)), sa_c (sa_ah n lo hi s o (o + len)))) :
    wpX_piece post (a1, sa_c rp, a3, sa_c n, sa_c lo, sa_c hi) (nI s) (nI o) (nI len) b :=
  sa_front hs h1 h4 (by omega) hro hm (sa_loopU hs hn hb h1 ho hk H)
theorem sa_pieceK {post : Int32 → St2 → Prop} {a1 a3 : Nat → Int32} {rp n lo hi : Nat → Nat} {s o len : Nat} {b : Int32} (hs : s < 4) (h1 : 1 ≤ len) (h4 : len ≤ 4) (ho : o + len ≤ 32) (hro : rp s ≤ o) (hm : sa_may a3 rp n hi s (o + len))
    (hn : n s ≤ 12) (hb : sa_bd n lo hi s) (hk : ∀ i, i < len → ∃ k, k < n s ∧ (lo (13 * s + k) ≤ o + i ∧ o + i < hi (13 * s + k)))
    (H : post 0 (a1, sa_c rp, a3, sa_c (sa_an n lo hi s o (o + len)), sa_c (sa_al n lo hi s o (o + len)), sa_c (sa_ah n lo hi s o (o + len)))) :
    wpX_piece post (a1, sa_c rp, a3, sa_c n, sa_c lo, sa_c hi) (nI s) (nI o) (nI len) b :=
  sa_front hs h1 h4 (by omega) hro hm (sa_loopK hs hn hb h1 ho hk H)
theorem sa_pieceF {post : Int32 → St2 → Prop} {a1 a2 a3 a4 a5 a6 : Nat → Int32} {s o len e : Nat} {b : Int32} (hs : s < 4) (h1 : 1 ≤ len) (h4 : len ≤ 4) (ho : o ≤ 1000) (he : a3 s = nI e) (hl : e < o + len)
    (H : post (-3) (a1, a2, a3, a4, a5, a6)) :
    wpX_piece post (a1, a2, a3, a4, a5, a6) (nI s) (nI o) (nI len) b := by
  unfold wpX_piece
  dsimp only
  rw [nI_clamp (show s < 2 ^ 31 by omega), he]
  refine sa_isS hs (br_f (by decide) (pk_lt len 1 (fun z => absurd z (by omega)) (fun _ => pk_lt 4 len (fun z => absurd z (by omega)) (fun _ => pk_lt o 0 (fun z => absurd z (by omega)) (fun _ => pk_le o 1000 (fun _ => ?_) (fun z => absurd z (by omega)))))))
  exact nm_r (nI_add o len) ⟨pk_in s 4 hs, br_f (nI_pos (by omega)) ⟨pk_in s 4 hs, pk_le (o + len) e (fun z => absurd z (by omega)) (fun _ => H)⟩⟩
end
section
/-- the stream's read point is known (kn = 1) or not (kn = 0) -/
def sa_rk (rp n lo hi : Nat → Nat) (s kn : Nat) : Prop :=
  (kn = 0 ∧ ∀ k, k < n s → ¬ (lo (13 * s + k) ≤ rp s ∧ rp s < hi (13 * s + k))) ∨ (kn = 1 ∧ ∃ k, k < n s ∧ (lo (13 * s + k) ≤ rp s ∧ rp s < hi (13 * s + k)))
theorem sa_isKr {post : Int32 → Prop} {a1 a2 a3 : Nat → Int32} {rp n lo hi : Nat → Nat} {s kn : Nat} (hs : s < 4) (hn : n s ≤ 13) (hx : rp s ≤ 1000) (hb : sa_bd n lo hi s) (h : sa_rk rp n lo hi s kn) (H : post (nI kn)) :
    wpX_isKnown post (a1, a2, a3, sa_c n, sa_c lo, sa_c hi) (nI s) (nI (rp s)) := by
  rcases h with ⟨e, h⟩ | ⟨e, h⟩
  · rw [e] at H
    exact sa_isK0 hs hn hx hb h H
  · rw [e] at H
    exact sa_isK1 hs hn hx hb h H
theorem sa_rk01 {rp n lo hi : Nat → Nat} {s kn : Nat} (h : sa_rk rp n lo hi s kn) : kn ≤ 1 ∧ kn ≤ n s := by
  rcases h with ⟨e, h⟩ | ⟨e, k, hk, _⟩ <;> omega
theorem sa_readable {post : Int32 → Prop} {a1 a3 : Nat → Int32} {rp n lo hi : Nat → Nat} {s kn v : Nat} (hs : s < 4) (hn : n s ≤ 13) (hx : rp s ≤ 1000) (hb : sa_bd n lo hi s) (h : sa_rk rp n lo hi s kn)
    (h0 : kn = 0 → v = 0) (h1 : kn = 1 → hi (13 * s) = rp s + v) (H : post (nI v)) :
    wpX_readable post (a1, sa_c rp, a3, sa_c n, sa_c lo, sa_c hi) (nI s) := by
  have hk := sa_rk01 h
  unfold wpX_readable
  dsimp only
  refine sa_isS hs (br_f (by decide) ⟨pk_in s 4 hs, nm_r (sa_at rp (by omega)) ?_⟩)
  refine sa_isKr hs hn hx hb h (pk_eq kn 0 (fun z => ?_) (fun z => ⟨pk_in (13 * s) 52 (by omega) (sa_13 s), ?_⟩))
  · rw [h0 z] at H
    exact H
  · rw [sa_13, sa_at hi (by omega), h1 (by omega), pk_sub (by omega), show rp s + v - rp s = v by omega]
    exact H
theorem sa_gaps {post : Int32 → Prop} {a1 a3 : Nat → Int32} {rp n lo hi : Nat → Nat} {s kn : Nat} (hs : s < 4) (hn : n s ≤ 13) (hx : rp s ≤ 1000) (hb : sa_bd n lo hi s) (h : sa_rk rp n lo hi s kn)
    (h3 : a3 s < 0) (hg : sa_hg rp n hi s ≤ 1000) (H : post (nI (n s - kn))) :
    wpX_gaps post (a1, sa_c rp, a3, sa_c n, sa_c lo, sa_c hi) (nI s) := by
  have hk := sa_rk01 h
  unfold wpX_gaps
  dsimp only
  rw [sa_at rp (show s < 2 ^ 31 by omega), sa_at n (show s < 2 ^ 31 by omega)]
  have T : ∀ z0 : Int32, z0 = nI kn → wX_gaps_34 post (nI s) z0 (nI (n s)) a1 (sa_c rp) a3 (sa_c n) (sa_c lo) (sa_c hi) := by
    intro z0 ez
    unfold wX_gaps_34
    rw [ez]
    refine nm_r (pk_sub hk.2) (sa_lastKnown hs hn (sa_highest hs h3 hn (pk_le (sa_hg rp n hi s) (sa_hg rp n hi s) (fun _ => ?_) (fun z => absurd z (by omega)))))
    have e : nI (n s - kn) + 0 = nI (n s - kn) := nI_add (n s - kn) 0
    rw [e]
    exact H
  exact sa_isS hs (br_f (by decide) ⟨pk_in s 4 hs, pk_in s 4 hs, sa_isKr hs hn hx hb h (pk_eq kn 0 (fun z => T 0 (by rw [z, nI_0])) (fun z => T 1 (by rw [show kn = 1 by omega]; rfl)))⟩)
theorem sa_gapN {post : Int32 → Prop} {a1 a3 : Nat → Int32} {rp n lo hi : Nat → Nat} {s kn g : Nat} (hs : s < 4) (hn : n s ≤ 13) (hx : rp s ≤ 1000) (hb : sa_bd n lo hi s) (h : sa_rk rp n lo hi s kn)
    (h3 : a3 s < 0) (hg : sa_hg rp n hi s ≤ 1000) (hg2 : n s - kn ≤ g) (hg3 : g ≤ 1000) (H : post (-4)) :
    wpX_gap post (a1, sa_c rp, a3, sa_c n, sa_c lo, sa_c hi) (nI s) (nI g) := by
  unfold wpX_gap
  dsimp only
  exact sa_isS hs (br_f (by decide) (pk_lt g 0 (fun z => absurd z (by omega)) (fun _ => sa_gaps hs hn hx hb h h3 hg (pk_lt g (n s - kn) (fun z => absurd z (by omega)) (fun _ => H)))))
theorem sa_gap0 {post : Int32 → Prop} {a1 a3 : Nat → Int32} {rp n lo hi : Nat → Nat} {s kn v : Nat} (hs : s < 4) (hn : n s ≤ 13) (hx : rp s ≤ 1000) (hb : sa_bd n lo hi s) (h : sa_rk rp n lo hi s kn)
    (h3 : a3 s < 0) (hg : sa_hg rp n hi s ≤ 1000) (hg2 : 0 < n s - kn) (h0 : kn = 0 → rp s = v) (h1 : kn = 1 → hi (13 * s) = v) (H : post (nI v)) :
    wpX_gap post (a1, sa_c rp, a3, sa_c n, sa_c lo, sa_c hi) (nI s) 0 := by
  have hk := sa_rk01 h
  unfold wpX_gap
  dsimp only
  rw [sa_at rp (show s < 2 ^ 31 by omega)]
  refine sa_isS hs (br_f (by decide) (pk_lt 0 0 (fun z => absurd z (by omega)) (fun _ => sa_gaps hs hn hx hb h h3 hg (pk_lt 0 (n s - kn) (fun _ => ⟨pk_in s 4 hs, ?_⟩) (fun z => absurd z (by omega))))))
  refine sa_isKr hs hn hx hb h (pk_eq kn 0 (fun z => ?_) (fun z => ?_))
  · unfold wX_gap_45
    refine nm_r (e' := 0) rfl (br_t rfl ⟨pk_in s 4 hs, ?_⟩)
    rw [sa_at rp (by omega), h0 z]
    exact H
  · unfold wX_gap_45
    have e : 13 * nI s + 1 - 1 = nI (13 * s) := sa_ix (m := 1) (by omega)
    refine nm_r (e' := 1) rfl (br_f (by decide) ⟨pk_in (13 * s) 52 (by omega) e, ?_⟩)
    rw [e, sa_at hi (by omega), h1 (by omega)]
    exact H
theorem sa_allowed {post : Int32 → Prop} {a1 a3 a5 : Nat → Int32} {rp n hi : Nat → Nat} {s v : Nat} (hs : s < 4) (h : sa_crOk a3 rp n hi) (hr : rp s + 24 ≤ 240) (hg : sa_hg rp n hi s ≤ 1000) (hc : sa_cr rp n hi 4 ≤ 1000)
    (hv : v = min (rp s + 24) (sa_hg rp n hi s + sa_cr rp n hi 4)) (H : post (nI v)) :
    wpX_allowed post (a1, sa_c rp, a3, sa_c n, a5, sa_c hi) (nI s) := by
  unfold wpX_allowed
  dsimp only
  rw [nI_clamp (show s < 2 ^ 31 by omega)]
  refine sa_isS hs (br_f (by decide) ⟨pk_in s 4 hs, br_t (h s hs).1 ?_⟩)
  refine sa_limitOf hs hr (sa_highest hs (h s hs).1 (h s hs).2.1 (sa_credit h (nm_r (nI_add _ _) (pk_le (sa_hg rp n hi s + sa_cr rp n hi 4) (rp s + 24) (fun z => ?_) (fun z => ?_)))))
  · rw [show sa_hg rp n hi s + sa_cr rp n hi 4 = v by omega]
    exact H
  · rw [show rp s + 24 = v by omega]
    exact H
theorem sa_allowedE {post : Int32 → Prop} {a1 a2 a3 a4 a5 a6 : Nat → Int32} {s e : Nat} (hs : s < 4) (he : e < 2 ^ 31) (h3 : a3 s = nI e) (H : post (nI e)) :
    wpX_allowed post (a1, a2, a3, a4, a5, a6) (nI s) := by
  unfold wpX_allowed
  dsimp only
  rw [nI_clamp (show s < 2 ^ 31 by omega), h3]
  exact sa_isS hs (br_f (by decide) ⟨pk_in s 4 hs, br_f (nI_pos he) ⟨pk_in s 4 hs, H⟩⟩)
theorem sa_finish {post : Int32 → St2 → Prop} {a1 a3 a5 : Nat → Int32} {rp n hi : Nat → Nat} {s e : Nat} (hs : s < 4) (he : e ≤ 1000) (hm : sa_may a3 rp n hi s e) (hh : sa_hg rp n hi s ≤ e)
    (H : post 0 (a1, sa_c rp, upd a3 s (nI e), sa_c n, a5, sa_c hi)) :
    wpX_finish post (a1, sa_c rp, a3, sa_c n, a5, sa_c hi) (nI s) (nI e) := by
  obtain ⟨m1, m2, m3, m4, m5, m6⟩ := hm
  unfold wpX_finish
  dsimp only
  rw [nI_clamp (show s < 2 ^ 31 by omega)]
  refine sa_isS hs (br_f (by decide) (pk_le 0 e (fun _ => ⟨pk_in s 4 hs, nm_e (br_t (m1 s hs).1 ?_)⟩) (fun z => absurd z (by omega))))
  unfold wX_finish_29
  refine sa_highest hs (m1 s hs).1 (m1 s hs).2.1 (pk_le (sa_hg rp n hi s) e (fun _ => ?_) (fun z => absurd z (by omega)))
  refine sa_mayReach hs m1 m2 m3 m4 m5 m6 (br_f (by decide) ⟨pk_in s 4 hs, nm_r ?_ H⟩)
  rw [nI_clamp (show s < 2 ^ 31 by omega)]
theorem sa_neg_ne {x : Int32} {v : Nat} (h : x < 0) (hv : v < 2 ^ 31) : ¬ x = nI v := fun e => nI_pos hv (e ▸ h)
theorem sa_readN {post : Int32 → St2 → Prop} {a1 a3 : Nat → Int32} {rp n lo hi : Nat → Nat} {s : Nat} (hs : s < 4) (hn : n s ≤ 13) (hx : rp s ≤ 1000) (hb : sa_bd n lo hi s) (h : sa_rk rp n lo hi s 0)
    (h3 : a3 s < 0) (H : post (-4) (a1, sa_c rp, a3, sa_c n, sa_c lo, sa_c hi)) :
    wpX_read post (a1, sa_c rp, a3, sa_c n, sa_c lo, sa_c hi) (nI s) := by
  unfold wpX_read
  dsimp only
  refine sa_isS hs (br_f (by decide) ⟨pk_in s 4 hs, nm_r (sa_at rp (by omega)) ⟨pk_in s 4 hs, br_f ?_ ?_⟩⟩)
  · rw [nI_clamp (show s < 2 ^ 31 by omega)]
    exact sa_neg_ne h3 (by omega)
  · exact sa_isKr hs hn hx hb h (br_t rfl H)
theorem sa_readY {post : Int32 → St2 → Prop} {a1 a3 : Nat → Int32} {rp n lo hi : Nat → Nat} {s : Nat} (hs : s < 4) (hn : n s ≤ 13) (hx : rp s < 32) (hb : sa_bd n lo hi s) (h : sa_rk rp n lo hi s 1)
    (h3 : a3 s < 0)
    (H0 : ¬ lo (13 * s) + 1 = hi (13 * s) → post (a1 (32 * s + rp s)) (a1, sa_c (sa_u rp s (rp s + 1)), a3, sa_c n, sa_c (sa_u lo (13 * s) (lo (13 * s) + 1)), sa_c hi))
    (H1 : lo (13 * s) + 1 = hi (13 * s) → post (a1 (32 * s + rp s)) (a1, sa_c (sa_u rp s (rp s + 1)), a3, sa_c (sa_u n s (n s - 1)), sa_c (sa_dn (sa_u lo (13 * s) (lo (13 * s) + 1)) (13 * s) (13 * s + (n s - 1)) 1), sa_c (sa_dn hi (13 * s) (13 * s + (n s - 1)) 1))) :
    wpX_read post (a1, sa_c rp, a3, sa_c n, sa_c lo, sa_c hi) (nI s) := by
  have hk := sa_rk01 h
  have hb0 := hb 0 (by omega)
  have hb1 : lo (13 * s) ≤ 1000 := hb0.1
  have hb2 : hi (13 * s) ≤ 1000 := hb0.2
  have R : ∀ (b2 b3 b4 b5 b6 : Nat → Int32), post (a1 (32 * s + rp s)) (a1, b2, b3, b4, b5, b6) → wX_read_91 post (nI s) (nI (rp s)) a1 b2 b3 b4 b5 b6 := by
    intro b2 b3 b4 b5 b6 hp
    unfold wX_read_91
    rw [sa_rix hx, nI_clamp (by omega)]
    exact ⟨pk_in (32 * s + rp s) 128 (by omega), hp⟩
  unfold wpX_read
  dsimp only
  refine sa_isS hs (br_f (by decide) ⟨pk_in s 4 hs, nm_r (sa_at rp (by omega)) ⟨pk_in s 4 hs, br_f ?_ ?_⟩⟩)
  · rw [nI_clamp (show s < 2 ^ 31 by omega)]
    exact sa_neg_ne h3 (by omega)
  refine sa_isKr hs hn (by omega) hb h (br_f (by decide) ⟨pk_in s 4 hs, nm_r (e' := sa_c (sa_u rp s (rp s + 1))) ?_ ⟨pk_in (13 * s) 52 (by omega) (sa_13 s), pk_in (13 * s) 52 (by omega) (sa_13 s), nm_r (e' := sa_c (sa_u lo (13 * s) (lo (13 * s) + 1))) ?_ ⟨pk_in (13 * s) 52 (by omega) (sa_13 s), pk_in (13 * s) 52 (by omega) (sa_13 s), ?_⟩⟩⟩)
  · rw [nI_1, nI_clamp (show s < 2 ^ 31 by omega), sa_cu]
  · rw [sa_13, sa_at lo (by omega), nI_1, nI_clamp (by omega), sa_cu]
  · refine pk_eq (lo (13 * s) + 1) (hi (13 * s)) (fun z => ?_) (fun z => R _ _ _ _ _ (H0 z)) (by rw [sa_13, sa_at _ (by omega), sa_us]) (by rw [sa_13, sa_at _ (by omega)])
    refine sa_drop (f := 0) (t := 1) hs hn (by omega) (by omega) (R _ _ _ _ _ (H1 z))
end
section
/-- the empty arrays -/
def sa_z : Nat → Nat := fun _ => 0
/-- the arrays behind one, two, three pieces -/
def sa_n1 (p : Nat) : Nat → Nat := sa_an sa_z sa_z sa_z 1 (2 * p) (2 * p + 2)
def sa_l1 (p : Nat) : Nat → Nat := sa_al sa_z sa_z sa_z 1 (2 * p) (2 * p + 2)
def sa_h1 (p : Nat) : Nat → Nat := sa_ah sa_z sa_z sa_z 1 (2 * p) (2 * p + 2)
def sa_n2 (p q : Nat) : Nat → Nat := sa_an (sa_n1 p) (sa_l1 p) (sa_h1 p) 1 (2 * q) (2 * q + 2)
def sa_l2 (p q : Nat) : Nat → Nat := sa_al (sa_n1 p) (sa_l1 p) (sa_h1 p) 1 (2 * q) (2 * q + 2)
def sa_h2 (p q : Nat) : Nat → Nat := sa_ah (sa_n1 p) (sa_l1 p) (sa_h1 p) 1 (2 * q) (2 * q + 2)
def sa_n3 (p q r : Nat) : Nat → Nat := sa_an (sa_n2 p q) (sa_l2 p q) (sa_h2 p q) 1 (2 * r) (2 * r + 2)
def sa_l3 (p q r : Nat) : Nat → Nat := sa_al (sa_n2 p q) (sa_l2 p q) (sa_h2 p q) 1 (2 * r) (2 * r + 2)
def sa_h3 (p q r : Nat) : Nat → Nat := sa_ah (sa_n2 p q) (sa_l2 p q) (sa_h2 p q) 1 (2 * r) (2 * r + 2)
/-- the law's own numbers -/
def sa_top (p q r : Nat) : Nat := max r (max q p)
def sa_run (p q r : Nat) : Nat :=
  if p = 0 ∨ q = 0 ∨ r = 0 then (if p = 1 ∨ q = 1 ∨ r = 1 then (if p = 2 ∨ q = 2 ∨ r = 2 then 3 else 2) else 1) else 0
def sa_g0 (p q r : Nat) : Nat := if p = 0 ∨ q = 0 ∨ r = 0 then 0 else 1
def sa_gp (p q r : Nat) : Nat := if p = sa_top p q r ∨ (p + 1 = q ∨ p + 1 = r) then 0 else 1
def sa_gq (p q r : Nat) : Nat := if q = p ∨ q = sa_top p q r ∨ (q + 1 = p ∨ q + 1 = r) then 0 else 1
def sa_gr (p q r : Nat) : Nat := if r = p ∨ r = q ∨ r = sa_top p q r ∨ (r + 1 = p ∨ r + 1 = q) then 0 else 1
def sa_gn (p q r : Nat) : Nat := sa_g0 p q r + sa_gp p q r + sa_gq p q r + sa_gr p q r
theorem sa_fa : ∀ p, p < 12 → sa_n1 p 1 = 1 ∧ sa_l1 p 13 = 2 * p ∧ sa_h1 p 13 = 2 * p + 2 := by decide +kernel
theorem sa_fb : ∀ p, p < 12 → ∀ q, q < 12 → (1 ≤ sa_n2 p q 1 ∧ sa_n2 p q 1 ≤ 2 ∧ sa_h2 p q (12 + sa_n2 p q 1) ≤ 24 ∧ (∀ k, k < 2 → k < sa_n2 p q 1 → sa_l2 p q (13 + k) ≤ 24 ∧ sa_h2 p q (13 + k) ≤ 24)) := by decide +kernel
def sa_b1 (p q r : Nat) : Bool := decide ((r = p ∨ r = q) → ((sa_l2 p q 13 ≤ 2 * r ∧ 2 * r + 1 < sa_h2 p q 13) ∨ (1 < sa_n2 p q 1 ∧ (sa_l2 p q 14 ≤ 2 * r ∧ 2 * r + 1 < sa_h2 p q 14))))
def sa_b0 (p q r k : Nat) : Bool := decide (¬ (r = p ∨ r = q) → k < sa_n2 p q 1 → (2 * r + 1 < sa_l2 p q (13 + k) ∨ sa_h2 p q (13 + k) ≤ 2 * r))
theorem sa_b1k : ∀ p, p < 12 → ∀ q, q < 12 → ∀ r, r < 12 → sa_b1 p q r = true := by decide +kernel
theorem sa_b0k : ∀ p, p < 12 → ∀ q, q < 12 → ∀ r, r < 12 → ∀ k, k < 2 → sa_b0 p q r k = true := by decide +kernel
def sa_c1 (p q r : Nat) : Bool := decide (1 ≤ sa_n3 p q r 1 ∧ sa_n3 p q r 1 ≤ 3 ∧ sa_h3 p q r (12 + sa_n3 p q r 1) = 2 * sa_top p q r + 2)
def sa_c2 (p q r k : Nat) : Bool := decide (k < sa_n3 p q r 1 → sa_l3 p q r (13 + k) ≤ 24 ∧ sa_h3 p q r (13 + k) ≤ 24 ∧ (sa_run p q r = 0 ∨ 1 ≤ k → 2 * sa_run p q r < sa_l3 p q r (13 + k)))
def sa_c3 (p q r : Nat) : Bool := decide (0 < sa_run p q r → sa_l3 p q r 13 = 0 ∧ sa_h3 p q r 13 = 2 * sa_run p q r)
def sa_c4 (p q r : Nat) : Bool := decide (sa_n3 p q r 1 = sa_gn p q r + (if sa_run p q r = 0 then 0 else 1))
theorem sa_c1k : ∀ p, p < 12 → ∀ q, q < 12 → ∀ r, r < 12 → sa_c1 p q r = true := by decide +kernel
theorem sa_c2k : ∀ p, p < 12 → ∀ q, q < 12 → ∀ r, r < 12 → ∀ k, k < 3 → sa_c2 p q r k = true := by decide +kernel
theorem sa_c3k : ∀ p, p < 12 → ∀ q, q < 12 → ∀ r, r < 12 → sa_c3 p q r = true := by decide +kernel
theorem sa_c4k : ∀ p, p < 12 → ∀ q, q < 12 → ∀ r, r < 12 → sa_c4 p q r = true := by decide +kernel
theorem sa_fb1 {p q r : Nat} (hp : p < 12) (hq : q < 12) (hr : r < 12) (h : r = p ∨ r = q) :
    ∃ k, k < sa_n2 p q 1 ∧ (sa_l2 p q (13 + k) ≤ 2 * r ∧ 2 * r + 1 < sa_h2 p q (13 + k)) := by
  have h1 := (sa_fb p hp q hq).1
  rcases of_decide_eq_true (sa_b1k p hp q hq r hr) h with g | g
  · exact ⟨0, by omega, g⟩
  · exact ⟨1, g.1, g.2⟩
theorem sa_fb0 {p q r : Nat} (hp : p < 12) (hq : q < 12) (hr : r < 12) (h : ¬ (r = p ∨ r = q)) (k : Nat) (hk : k < sa_n2 p q 1) :
    2 * r + 1 < sa_l2 p q (13 + k) ∨ sa_h2 p q (13 + k) ≤ 2 * r := by
  have h1 := (sa_fb p hp q hq).2.1
  exact of_decide_eq_true (sa_b0k p hp q hq r hr k (by omega)) h hk
theorem sa_fc1 {p q r : Nat} (hp : p < 12) (hq : q < 12) (hr : r < 12) : 1 ≤ sa_n3 p q r 1 ∧ sa_n3 p q r 1 ≤ 3 ∧ sa_h3 p q r (12 + sa_n3 p q r 1) = 2 * sa_top p q r + 2 :=
  of_decide_eq_true (sa_c1k p hp q hq r hr)
theorem sa_fc2 {p q r : Nat} (hp : p < 12) (hq : q < 12) (hr : r < 12) (k : Nat) (hk : k < sa_n3 p q r 1) :
    sa_l3 p q r (13 + k) ≤ 24 ∧ sa_h3 p q r (13 + k) ≤ 24 ∧ (sa_run p q r = 0 ∨ 1 ≤ k → 2 * sa_run p q r < sa_l3 p q r (13 + k)) := by
  have h1 := (sa_fc1 hp hq hr).2.1
  exact of_decide_eq_true (sa_c2k p hp q hq r hr k (by omega)) hk
theorem sa_fc3 {p q r : Nat} (hp : p < 12) (hq : q < 12) (hr : r < 12) : 0 < sa_run p q r → sa_l3 p q r 13 = 0 ∧ sa_h3 p q r 13 = 2 * sa_run p q r :=
  of_decide_eq_true (sa_c3k p hp q hq r hr)
theorem sa_fc4 {p q r : Nat} (hp : p < 12) (hq : q < 12) (hr : r < 12) : sa_n3 p q r 1 = sa_gn p q r + (if sa_run p q r = 0 then 0 else 1) :=
  of_decide_eq_true (sa_c4k p hp q hq r hr)
/-- the law's set, and its bits -/
def sa_set (p q r : Nat) : Int32 := (((1 : Int32) <<< (nI p &&& 31)) ||| ((1 : Int32) <<< (nI q &&& 31))) ||| ((1 : Int32) <<< (nI r &&& 31))
def sa_d1 (p q r : Nat) : Bool := decide ((sa_set p q r &&& 1 = 0 ↔ ¬ (p = 0 ∨ q = 0 ∨ r = 0)) ∧ (sa_set p q r &&& 2 = 0 ↔ ¬ (p = 1 ∨ q = 1 ∨ r = 1)) ∧ (sa_set p q r &&& 4 = 0 ↔ ¬ (p = 2 ∨ q = 2 ∨ r = 2)))
def sa_d2 (p q r x : Nat) : Bool := decide ((sa_set p q r >>> ((nI x + 1) &&& 31)) &&& 1 = 0 ↔ ¬ (x + 1 = p ∨ x + 1 = q ∨ x + 1 = r))
theorem sa_d1k : ∀ p, p < 12 → ∀ q, q < 12 → ∀ r, r < 12 → sa_d1 p q r = true := by decide +kernel
theorem sa_d2k : ∀ p, p < 12 → ∀ q, q < 12 → ∀ r, r < 12 → (sa_d2 p q r p && (sa_d2 p q r q && sa_d2 p q r r)) = true := by decide +kernel
end
section
theorem sa_2 (x : Nat) : 2 * nI x = nI (2 * x) := pk_mul 2 x
theorem sa_2p (x c : Nat) : 2 * nI x + nI c = nI (2 * x + c) := by
  rw [sa_2, nI_add]
/-- credit's condition and value, streams 2 and 3 empty -/
theorem sa_crI {a3 : Nat → Int32} {rp n hi : Nat → Nat} {d h g : Nat} (h3 : ∀ i, i < 4 → a3 i < 0) (hn : ∀ i, i < 4 → n i ≤ 13) (r0 : rp 0 = 0) (r1 : rp 1 = d) (r2 : rp 2 = 0) (r3 : rp 3 = 0)
    (g0 : sa_hg rp n hi 0 = g) (g1 : sa_hg rp n hi 1 = h) (g2 : sa_hg rp n hi 2 = 0) (g3 : sa_hg rp n hi 3 = 0) (hg : g ≤ 24) (hh : h ≤ 24) : sa_crOk a3 rp n hi ∧ sa_cr rp n hi 4 = 56 - g + d - h := by
  have c0 : sa_cr rp n hi 0 = 56 := rfl
  have c1 : sa_cr rp n hi 1 = 56 - g := by
    show sa_cr rp n hi 0 + rp 0 - sa_hg rp n hi 0 = _
    rw [c0, r0, g0]
  have c2 : sa_cr rp n hi 2 = 56 - g + d - h := by
    show sa_cr rp n hi 1 + rp 1 - sa_hg rp n hi 1 = _
    rw [c1, r1, g1]
  have c3 : sa_cr rp n hi 3 = 56 - g + d - h := by
    show sa_cr rp n hi 2 + rp 2 - sa_hg rp n hi 2 = _
    rw [c2, r2, g2]
    rfl
  have c4 : sa_cr rp n hi 4 = 56 - g + d - h := by
    show sa_cr rp n hi 3 + rp 3 - sa_hg rp n hi 3 = _
    rw [c3, r3, g3]
    rfl
  refine ⟨fun i h4 => ⟨h3 i h4, hn i h4, ?_⟩, c4⟩
  match i, h4 with
  | 0, _ => rw [g0, c0]; omega
  | 1, _ => rw [g1, c1, r1]; omega
  | 2, _ => rw [g2]; omega
  | 3, _ => rw [g3]; omega
theorem sa_hg0 {rp n hi : Nat → Nat} {s : Nat} (h : n s = 0) : sa_hg rp n hi s = rp s := if_pos h
/-- the streams while d bytes of stream 1 are read -/
def sa_L (top run d : Nat) (rp n lo hi : Nat → Nat) : Prop :=
  (rp 0 = 0 ∧ rp 1 = d ∧ rp 2 = 0 ∧ rp 3 = 0) ∧ (n 0 = 0 ∧ n 2 = 0 ∧ n 3 = 0) ∧ n 1 ≤ 3 ∧ sa_bd n lo hi 1 ∧ sa_hg rp n hi 1 = 2 * top + 2 ∧ d ≤ 2 * run ∧
  (d < 2 * run → 1 ≤ n 1 ∧ lo 13 = d ∧ hi 13 = 2 * run ∧ ∀ k, 1 ≤ k → k < n 1 → 2 * run < lo (13 + k)) ∧ (d = 2 * run → ∀ k, k < n 1 → d < lo (13 + k))
theorem sa_Lrk {top run d : Nat} {rp n lo hi : Nat → Nat} (h : sa_L top run d rp n lo hi) : (d < 2 * run → sa_rk rp n lo hi 1 1) ∧ (d = 2 * run → sa_rk rp n lo hi 1 0) := by
  obtain ⟨⟨_, r1, _, _⟩, _, _, _, _, _, h1, h0⟩ := h
  constructor
  · intro z
    obtain ⟨k1, k2, k3, _⟩ := h1 z
    refine Or.inr ⟨rfl, 0, k1, ?_⟩
    rw [r1]
    exact ⟨by show lo 13 ≤ d; omega, by show d < hi 13; omega⟩
  · intro z
    refine Or.inl ⟨rfl, fun k hk g => ?_⟩
    have g1 : lo (13 + k) ≤ rp 1 := g.1
    have g2 := h0 z k hk
    omega
theorem sa_LstepA {top run d : Nat} {rp n lo hi : Nat → Nat} (h : sa_L top run d rp n lo hi) (hd : d < 2 * run) (hr : run ≤ 3) (hne : ¬ d + 1 = 2 * run) : sa_L top run (d + 1) (sa_u rp 1 (rp 1 + 1)) n (sa_u lo 13 (lo 13 + 1)) hi := by
  obtain ⟨⟨r0, r1, r2, r3⟩, hn, hn1, hb, hg, hle, h1, h0⟩ := h
  obtain ⟨k1, k2, k3, k4⟩ := h1 hd
  refine ⟨⟨r0, ?_, r2, r3⟩, hn, hn1, ?_, ?_, by omega, fun _ => ⟨k1, ?_, k3, ?_⟩, fun z => absurd z hne⟩
  · rw [sa_us, r1]
  · intro k hk
    have b := hb k hk
    refine ⟨?_, b.2⟩
    by_cases e : k = 0
    · rw [e]
      show sa_u lo 13 (lo 13 + 1) 13 ≤ 1000
      rw [sa_us]
      omega
    · rw [sa_un (by omega)]
      exact b.1
  · rw [← hg]
    unfold sa_hg
    rw [if_neg (by omega), if_neg (by omega)]
  · rw [sa_us, k2]
  · intro k hk hk2
    rw [sa_un (by omega)]
    exact k4 k hk hk2
theorem sa_LstepB {top run d : Nat} {rp n lo hi : Nat → Nat} (h : sa_L top run d rp n lo hi) (hd : d < 2 * run) (hr : run ≤ 3) (he : d + 1 = 2 * run) :
    sa_L top run (d + 1) (sa_u rp 1 (rp 1 + 1)) (sa_u n 1 (n 1 - 1)) (sa_dn (sa_u lo 13 (lo 13 + 1)) 13 (13 + (n 1 - 1)) 1) (sa_dn hi 13 (13 + (n 1 - 1)) 1) := by
  obtain ⟨⟨r0, r1, r2, r3⟩, hn, hn1, hb, hg, hle, h1, h0⟩ := h
  obtain ⟨k1, k2, k3, k4⟩ := h1 hd
  have el : ∀ k, k < n 1 - 1 → sa_dn (sa_u lo 13 (lo 13 + 1)) 13 (13 + (n 1 - 1)) 1 (13 + k) = lo (13 + (k + 1)) := by
    intro k hk
    unfold sa_dn
    rw [if_pos (by omega), sa_un (by omega)]
    rfl
  have eh : ∀ k, k < n 1 - 1 → sa_dn hi 13 (13 + (n 1 - 1)) 1 (13 + k) = hi (13 + (k + 1)) := by
    intro k hk
    unfold sa_dn
    rw [if_pos (by omega)]
    rfl
  refine ⟨⟨r0, ?_, r2, r3⟩, hn, ?_, ?_, ?_, by omega, fun z => absurd z (by omega), ?_⟩
  · rw [sa_us, r1]
  · rw [sa_us]
    omega
  · intro k hk
    rw [sa_us] at hk
    have b := hb (k + 1) (by omega)
    show sa_dn (sa_u lo 13 (lo 13 + 1)) 13 (13 + (n 1 - 1)) 1 (13 + k) ≤ 1000 ∧ sa_dn hi 13 (13 + (n 1 - 1)) 1 (13 + k) ≤ 1000
    rw [el k hk, eh k hk]
    exact b
  · unfold sa_hg at hg ⊢
    rw [sa_us, sa_us]
    rw [if_neg (by omega)] at hg
    by_cases e : n 1 - 1 = 0
    · rw [if_pos e, ← hg, show 13 * 1 + n 1 - 1 = 13 by omega, k3]
      omega
    · rw [if_neg e, ← hg]
      have t := eh (n 1 - 1 - 1) (by omega)
      rw [show 13 + (n 1 - 1 - 1) = 13 * 1 + (n 1 - 1) - 1 by omega, show 13 + (n 1 - 1 - 1 + 1) = 13 * 1 + n 1 - 1 by omega] at t
      exact t
  · intro _ k hk
    rw [sa_us] at hk
    rw [el k hk]
    have := k4 (k + 1) (by omega) (by omega)
    omega
/-- stream 0 behind its piece -/
theorem sa_emp {n lo hi : Nat → Nat} (h : n 0 = 0) : sa_an n lo hi 0 20 24 0 = 1 ∧ sa_ah n lo hi 0 20 24 0 = 24 ∧ (∀ j, j ≠ 0 → sa_an n lo hi 0 20 24 j = n j) ∧ (∀ j, j ≠ 0 → sa_ah n lo hi 0 20 24 j = hi j) := by
  have e1 : sa_e n hi 0 20 = 0 := by
    unfold sa_e
    rw [h]
    rfl
  have e2 : sa_r n lo hi 0 20 24 = (0, 20, 24) := by
    unfold sa_r
    rw [e1, h]
    rfl
  have e3 : ∀ g : Nat → Nat, sa_mv g n lo hi 0 20 24 = g := by
    intro g
    unfold sa_mv
    rw [e1, e2, h]
    exact sa_ups0 g 0
  refine ⟨?_, ?_, ?_, ?_⟩
  · unfold sa_an
    rw [sa_us, e1, e2, h]
    rfl
  · unfold sa_ah
    rw [e1, e2]
    rfl
  · intro j hj
    unfold sa_an
    exact sa_un hj
  · intro j hj
    unfold sa_ah
    rw [e1, e2, e3]
    exact sa_un hj
end
section
theorem sa_2p2 (x : Nat) : 2 * nI x + 2 = nI (2 * x + 2) := sa_2p x 2
theorem sa_2p1 (x : Nat) : 2 * nI x + 1 = nI (2 * x + 1) := sa_2p x 1
theorem sa_651 {post : Int32 → St0 → Prop} {mc ms kc ks : Nat} {b z0 z1 : Int32} {a1 a3 a5 : Nat → Int32} {rp n hi : Nat → Nat} {top : Nat} (htop : top ≤ 11) (hz : z1 = z0) (hm : sa_may a3 rp n hi 1 (2 * top + 2)) (hh : sa_hg rp n hi 1 ≤ 2 * top + 2) (H : post 1 ()) :
    wL_lawOf_651 post mc ms b (nI top) z0 z1 kc ks a1 (sa_c rp) a3 (sa_c n) a5 (sa_c hi) := by
  unfold wL_lawOf_651
  rw [sa_2p2, sa_2p1]
  refine br_t hz (sa_finish (s := 1) (e := 2 * top + 2) (by omega) (by omega) hm hh (br_t rfl ?_))
  refine sa_allowedE (s := 1) (e := 2 * top + 2) (by omega) (by omega) pk_us (br_t rfl ?_)
  exact sa_pieceF (s := 1) (o := 2 * top + 1) (len := 2) (e := 2 * top + 2) (by omega) (by omega) (by omega) (by omega) pk_us (by omega) (br_t rfl H)
theorem sa_458Y {post : Int32 → St0 → Prop} {mc ms kc ks : Nat} {J : Int32 → Int32 → (Nat → Int32) → (Nat → Int32) → (Nat → Int32) → (Nat → Int32) → (Nat → Int32) → (Nat → Int32) → Prop} {x3 x10 x13 x14 x15 v : Int32} {run i : Nat} {b1 b2 b3 b4 b5 b6 : Nat → Int32}
    (hr : run ≤ 3) (hi : i < 2 * run) (hv : ¬ v < 0) (h0 : i = 0 → v = x14 &&& 255) (h1 : i = 1 → v = (x14 >>> ((8 : Int32) &&& 31)) &&& 255) (HJ : J (x15 + 1) (nI (i + 1)) b1 b2 b3 b4 b5 b6) :
    wL_lawOf_458 post mc ms J x3 x10 (nI run) x13 x14 x15 (nI i) v 1 kc ks b1 b2 b3 b4 b5 b6 := by
  have T5 : wL_lawOf_525 post mc ms J x3 x10 (nI run) x13 x14 x15 (nI i) v kc ks b1 b2 b3 b4 b5 b6 := by
    unfold wL_lawOf_525
    exact br_f hv (nm_e (nm_r (nI_1 i) HJ))
  have T4 : wL_lawOf_498 post mc ms J x3 x10 (nI run) x13 x14 x15 (nI i) v kc ks b1 b2 b3 b4 b5 b6 := by
    unfold wL_lawOf_498
    exact pk_eq i 1 (fun z => pk_le run 0 (fun z2 => absurd z2 (by omega)) (fun _ => br_t (h1 z) T5)) (fun _ => T5)
  unfold wL_lawOf_458
  refine pk_le (2 * run) i (fun z => absurd z (by omega)) (fun _ => ?_) (sa_2 run)
  unfold wL_lawOf_472
  exact br_t rfl (pk_eq i 0 (fun z => pk_le run 0 (fun z2 => absurd z2 (by omega)) (fun _ => br_t (h0 z) T4)) (fun _ => T4))
theorem sa_458N {post : Int32 → St0 → Prop} {mc ms kc ks : Nat} {J : Int32 → Int32 → (Nat → Int32) → (Nat → Int32) → (Nat → Int32) → (Nat → Int32) → (Nat → Int32) → (Nat → Int32) → Prop} {x3 x10 x13 x14 x15 v : Int32} {run i : Nat} {b1 b2 b3 b4 b5 b6 : Nat → Int32}
    (hr : run ≤ 3) (hi : 2 * run ≤ i) (hi8 : i < 8) (hv : v < 0) (HJ : J x15 (nI (i + 1)) b1 b2 b3 b4 b5 b6) :
    wL_lawOf_458 post mc ms J x3 x10 (nI run) x13 x14 x15 (nI i) v 0 kc ks b1 b2 b3 b4 b5 b6 := by
  have T5 : wL_lawOf_525 post mc ms J x3 x10 (nI run) x13 x14 x15 (nI i) v kc ks b1 b2 b3 b4 b5 b6 := by
    unfold wL_lawOf_525
    exact br_t hv (nm_r (nI_1 i) HJ)
  have T4 : wL_lawOf_498 post mc ms J x3 x10 (nI run) x13 x14 x15 (nI i) v kc ks b1 b2 b3 b4 b5 b6 := by
    unfold wL_lawOf_498
    exact pk_eq i 1 (fun z => pk_le run 0 (fun _ => T5) (fun z2 => absurd z2 (by omega))) (fun _ => T5)
  unfold wL_lawOf_458
  refine pk_le (2 * run) i (fun _ => ?_) (fun z => absurd z (by omega)) (sa_2 run)
  unfold wL_lawOf_472
  exact br_t rfl (pk_eq i 0 (fun z => pk_le run 0 (fun _ => T4) (fun z2 => absurd z2 (by omega))) (fun _ => T4))
theorem sa_exit {post : Int32 → St0 → Prop} {mc ms kc ks fu : Nat} {b first x13 : Int32} {top run d : Nat} {a1 a3 : Nat → Int32} {rp n lo hi : Nat → Nat} (htop : top ≤ 11) (hrun : run ≤ 3) (h3 : ∀ i, i < 4 → a3 i < 0)
    (hL : sa_L top run d rp n lo hi) (H : post 1 ()) :
    wL_lawOf_426 post mc ms b (nI top) (nI run) x13 first kc ks (fu + 1) (nI d) 8 a1 (sa_c rp) a3 (sa_c n) (sa_c lo) (sa_c hi) := by
  have hK := sa_Lrk hL
  obtain ⟨⟨r0, r1, r2, r3⟩, ⟨n0, n2, n3⟩, hn1, hb, hg, hle, h1, h0⟩ := hL
  have hn : ∀ i, i < 4 → n i ≤ 13 := by
    intro i h4
    match i, h4 with
    | 0, _ => omega
    | 1, _ => omega
    | 2, _ => omega
    | 3, _ => omega
  have g0 : sa_hg rp n hi 0 = 0 := by rw [sa_hg0 n0, r0]
  have g2 : sa_hg rp n hi 2 = 0 := by rw [sa_hg0 n2, r2]
  have g3 : sa_hg rp n hi 3 = 0 := by rw [sa_hg0 n3, r3]
  obtain ⟨hcr, hc4⟩ := sa_crI h3 hn r0 r1 r2 r3 g0 hg g2 g3 (by omega) (by omega)
  have K : ∃ kn, sa_rk rp n lo hi 1 kn ∧ (kn = 0 → 2 * run - d = 0) ∧ (kn = 1 → hi (13 * 1) = rp 1 + (2 * run - d)) := by
    by_cases e : d < 2 * run
    · refine ⟨1, hK.1 e, fun z => absurd z (by omega), fun _ => ?_⟩
      have e3 := (h1 e).2.2.1
      show hi 13 = rp 1 + (2 * run - d)
      omega
    · exact ⟨0, hK.2 (by omega), fun _ => by omega, fun z => absurd z (by omega)⟩
  obtain ⟨kn, k1, k2, k3⟩ := K
  refine pk_le 8 8 (fun _ => ?_) (fun z => absurd z (by omega))
  refine sa_readable (s := 1) (kn := kn) (v := 2 * run - d) (by omega) (by omega) (by omega) hb k1 k2 k3 (br_t (by rw [sa_2, pk_sub hle]) ?_)
  refine sa_allowed (s := 1) (v := 24 + d) (by omega) hcr (by omega) (by omega) (by omega) (by omega) (br_t (nI_add 24 d).symm ?_)
  refine sa_highest (s := 1) (by omega) (h3 1 (by omega)) (hn 1 (by omega)) (br_t (by rw [hg, sa_2p2]) ?_)
  have ex : 56 + nI d - (2 * nI top + 2) = nI (56 + d - (2 * top + 2)) := by
    rw [sa_2p2]
    exact (congrArg (· - nI (2 * top + 2)) (nI_add 56 d)).trans (pk_sub (by omega))
  refine nm_r ex ?_
  refine sa_allowed (s := 0) (v := 24) (by omega) hcr (by omega) (by omega) (by omega) (by omega) (br_t rfl ?_)
  have E : sa_an n lo hi 0 20 (20 + 4) 0 = 1 ∧ sa_ah n lo hi 0 20 (20 + 4) 0 = 24 ∧ (∀ j, j ≠ 0 → sa_an n lo hi 0 20 (20 + 4) j = n j) ∧ (∀ j, j ≠ 0 → sa_ah n lo hi 0 20 (20 + 4) j = hi j) := sa_emp (lo := lo) (hi := hi) n0
  obtain ⟨e1, e2, e3, e4⟩ := E
  refine sa_pieceU (s := 0) (o := 20) (len := 4) (by omega) (by omega) (by omega) (by omega) (by omega) ⟨hcr, by omega, by omega, by omega, by omega, by omega⟩ (by omega) (fun k hk => absurd hk (by omega)) (fun i _ k hk => absurd hk (by omega)) (br_t rfl ?_)
  have hn' : ∀ i, i < 4 → sa_an n lo hi 0 20 (20 + 4) i ≤ 13 := by
    intro i h4
    by_cases z : i = 0
    · rw [z, e1]
      omega
    · rw [e3 i z]
      exact hn i h4
  have g0' : sa_hg rp (sa_an n lo hi 0 20 (20 + 4)) (sa_ah n lo hi 0 20 (20 + 4)) 0 = 24 := by
    unfold sa_hg
    rw [e1]
    exact e2
  have g1' : sa_hg rp (sa_an n lo hi 0 20 (20 + 4)) (sa_ah n lo hi 0 20 (20 + 4)) 1 = 2 * top + 2 := by
    unfold sa_hg at hg ⊢
    rw [e3 1 (by omega), e4 _ (by omega)]
    exact hg
  have g2' : sa_hg rp (sa_an n lo hi 0 20 (20 + 4)) (sa_ah n lo hi 0 20 (20 + 4)) 2 = 0 := by
    rw [sa_hg0 (by rw [e3 2 (by omega), n2]), r2]
  have g3' : sa_hg rp (sa_an n lo hi 0 20 (20 + 4)) (sa_ah n lo hi 0 20 (20 + 4)) 3 = 0 := by
    rw [sa_hg0 (by rw [e3 3 (by omega), n3]), r3]
  obtain ⟨hcr', hc4'⟩ := sa_crI h3 hn' r0 r1 r2 r3 g0' g1' g2' g3' (by omega) (by omega)
  have hmay : sa_may a3 rp (sa_an n lo hi 0 20 (20 + 4)) (sa_ah n lo hi 0 20 (20 + 4)) 1 (2 * top + 2) := ⟨hcr', by omega, by omega, by omega, by omega, by omega⟩
  have es : nI (56 + d - (2 * top + 2)) - 24 = nI (56 + d - (2 * top + 2) - 24) := pk_sub (b := 24) (by omega)
  refine sa_allowed (s := 3) (v := min 24 (56 + d - (2 * top + 2) - 24)) (by omega) hcr' (by omega) (by omega) (by omega) (by omega) ?_
  refine pk_le 24 (56 + d - (2 * top + 2) - 24) (fun z => ?_) (fun z => ?_) rfl es
  · exact sa_651 htop (by rw [show min 24 (56 + d - (2 * top + 2) - 24) = 24 by omega]; rfl) hmay (by omega) H
  · exact sa_651 htop (by rw [show min 24 (56 + d - (2 * top + 2) - 24) = 56 + d - (2 * top + 2) - 24 by omega, es]) hmay (by omega) H
theorem sa_loop {post : Int32 → St0 → Prop} {mc ms kc ks : Nat} {b first : Int32} {top run nn : Nat} {a1 a3 : Nat → Int32} {rp n lo hi : Nat → Nat} (htop : top ≤ 11) (hrun : run ≤ 3) (hnn : nn ≤ 7) (h3 : ∀ i, i < 4 → a3 i < 0) (hp : ∀ x, ¬ a1 x < 0)
    (hv : 0 < run → a1 32 = first &&& 255 ∧ a1 33 = (first >>> ((8 : Int32) &&& 31)) &&& 255) (hL : sa_L top run 0 rp n lo hi) (H : post 1 ()) :
    ∃ fu, wL_lawOf_426 post mc ms b (nI top) (nI run) (nI nn) first kc ks fu 0 0 a1 (sa_c rp) a3 (sa_c n) (sa_c lo) (sa_c hi) := by
  refine loop_0 (fun fu i (s : Nat × (Nat → Nat) × (Nat → Nat) × (Nat → Nat) × (Nat → Nat)) => wL_lawOf_426 post mc ms b (nI top) (nI run) (nI nn) first kc ks fu (nI s.1) (nI i) a1 (sa_c s.2.1) a3 (sa_c s.2.2.1) (sa_c s.2.2.2.1) (sa_c s.2.2.2.2))
    (fun i s => sa_L top run s.1 s.2.1 s.2.2.1 s.2.2.2.1 s.2.2.2.2 ∧ s.1 = min (min i nn) (2 * run)) 8 (0, rp, n, lo, hi) ⟨hL, by show 0 = _; omega⟩ ?_ ?_
  · rintro fu ⟨d, rp, n, lo, hi⟩ ⟨hl, _⟩
    exact sa_exit htop hrun h3 hl H
  · rintro fu i ⟨d, rp, n, lo, hi⟩ hi8 ⟨hl, hd⟩ hw
    have hl : sa_L top run d rp n lo hi := hl
    have hd : d = min (min i nn) (2 * run) := hd
    have hK := sa_Lrk hl
    have hl' := hl
    obtain ⟨⟨r0, r1, r2, r3⟩, ⟨n0, n2, n3⟩, hn1, hb, hg, hle, h1, h0⟩ := hl'
    show wL_lawOf_426 post mc ms b (nI top) (nI run) (nI nn) first kc ks (fu + 1) (nI d) (nI i) a1 (sa_c rp) a3 (sa_c n) (sa_c lo) (sa_c hi)
    refine pk_le 8 i (fun z => absurd z (by omega)) (fun _ => ?_)
    refine pk_le nn i (fun z => ?_) (fun z => ?_)
    · exact nm_r (nI_1 i) (hw (d, rp, n, lo, hi) ⟨hl, by show d = _; omega⟩)
    · by_cases e : d < 2 * run
      · have hk := h1 e
        refine sa_readY (s := 1) (by omega) (by omega) (by omega) hb (hK.1 e) (h3 1 (by omega)) (fun g => ?_) (fun g => ?_)
        · have g' : ¬ lo 13 + 1 = hi 13 := g
          refine br_f (hp _) (sa_458Y hrun (by omega) (hp _) (fun z0 => ?_) (fun z1 => ?_) ?_)
          · have t := (hv (by omega)).1
            rw [show 32 * 1 + rp 1 = 32 by omega]
            exact t
          · have t := (hv (by omega)).2
            rw [show 32 * 1 + rp 1 = 33 by omega]
            exact t
          · rw [nI_1]
            exact hw (d + 1, _, _, _, _) ⟨sa_LstepA hl e hrun (by omega), by show d + 1 = _; omega⟩
        · have g' : lo 13 + 1 = hi 13 := g
          refine br_f (hp _) (sa_458Y hrun (by omega) (hp _) (fun z0 => ?_) (fun z1 => ?_) ?_)
          · have t := (hv (by omega)).1
            rw [show 32 * 1 + rp 1 = 32 by omega]
            exact t
          · have t := (hv (by omega)).2
            rw [show 32 * 1 + rp 1 = 33 by omega]
            exact t
          · rw [nI_1]
            exact hw (d + 1, _, _, _, _) ⟨sa_LstepB hl e hrun (by omega), by show d + 1 = _; omega⟩
      · refine sa_readN (s := 1) (by omega) (by omega) (by omega) hb (hK.2 (by omega)) (h3 1 (by omega)) ?_
        exact br_t (by decide) (sa_458N hrun (by omega) hi8 (by decide) (hw (d, rp, n, lo, hi) ⟨hl, by show d = _; omega⟩))
end
section
/-- the first two bytes of stream 1 in the ring -/
def sa_B (a1 : Nat → Int32) (v : Int32) : Prop := a1 32 = v &&& 255 ∧ a1 33 = (v >>> ((8 : Int32) &&& 31)) &&& 255
def sa_first (b : Int32) (p q : Nat) : Int32 := if p = 0 then b else if q = 0 then b + 1 else b + 2
/-- the state behind the three pieces -/
def sa_Q (top run gaps : Nat) (first : Int32) (a1 a3 : Nat → Int32) (n lo hi : Nat → Nat) : Prop :=
  top ≤ 11 ∧ run ≤ 3 ∧ gaps ≤ 4 ∧ (∀ i, i < 4 → a3 i < 0) ∧ (∀ x, ¬ a1 x < 0) ∧ (0 < run → sa_B a1 first) ∧ sa_L top run 0 sa_z n lo hi ∧ n 1 = gaps + (if run = 0 then 0 else 1)
theorem sa_370 {post : Int32 → St0 → Prop} {mc ms kc ks : Nat} {b x4 z0 z1 : Int32} {a1 a3 : Nat → Int32} {n lo hi : Nat → Nat} {p q top run gaps : Nat} (hp : p < 12) (hq : q < 12)
    (hQ : sa_Q top run gaps (sa_first b p q) a1 a3 n lo hi) (hz : z1 = z0) (H : post 1 ()) :
    wL_lawOf_370 post mc ms b x4 (nI p) (nI q) (nI top) (nI run) (nI gaps) z0 z1 kc ks a1 (sa_c sa_z) a3 (sa_c n) (sa_c lo) (sa_c hi) := by
  obtain ⟨q1, q2, q3, q4, q5, q6, q7, q8⟩ := hQ
  have hK := sa_Lrk q7
  have hL := q7
  obtain ⟨_, _, hn1, hb, hg, _, _, _⟩ := hL
  have K : ∃ kn, sa_rk sa_z n lo hi 1 kn ∧ n 1 - kn ≤ gaps := by
    by_cases e : run = 0
    · rw [if_pos e] at q8
      exact ⟨0, hK.2 (by omega), by omega⟩
    · rw [if_neg e] at q8
      exact ⟨1, hK.1 (by omega), by omega⟩
  obtain ⟨kn, k1, k2⟩ := K
  obtain ⟨nn, hnn, en⟩ := pk_andE x4 (m := 7) 3 rfl
  have F : ∀ f : Int32, f = sa_first b p q → ∃ fu, wL_lawOf_426 post mc ms b (nI top) (nI run) (nI nn) f kc ks fu 0 0 a1 (sa_c sa_z) a3 (sa_c n) (sa_c lo) (sa_c hi) := by
    intro f ef
    rw [ef]
    exact sa_loop q1 q2 (by omega) q4 q5 q6 q7 H
  unfold wL_lawOf_370
  refine br_t hz (sa_gapN (s := 1) (kn := kn) (g := gaps) (by omega) (by omega) (Nat.zero_le 1000) hb k1 (q4 1 (by omega)) (by omega) k2 (by omega) (br_t rfl (nm_r en ?_)))
  refine pk_eq p 0 (fun z => F b ?_) (fun z => pk_eq q 0 (fun z2 => nm_e (F (b + 1) ?_)) (fun z2 => nm_e (F (b + 2) ?_)))
  · exact (if_pos z).symm
  · unfold sa_first
    rw [if_neg z, if_pos z2]
  · unfold sa_first
    rw [if_neg z, if_neg z2]
theorem sa_308 {post : Int32 → St0 → Prop} {mc ms kc ks : Nat} {b x4 : Int32} {a1 a3 : Nat → Int32} {n lo hi : Nat → Nat} {p q top run gaps : Nat} (hp : p < 12) (hq : q < 12)
    (hQ : sa_Q top run gaps (sa_first b p q) a1 a3 n lo hi) (H : post 1 ()) :
    wL_lawOf_308 post mc ms b x4 (nI p) (nI q) (nI top) (nI run) (nI gaps) kc ks a1 (sa_c sa_z) a3 (sa_c n) (sa_c lo) (sa_c hi) := by
  have hQ' := hQ
  obtain ⟨q1, q2, q3, q4, q5, q6, q7, q8⟩ := hQ
  have hK := sa_Lrk q7
  have hL := q7
  obtain ⟨_, _, hn1, hb, hg, _, h1, _⟩ := hL
  have K : ∃ kn, sa_rk sa_z n lo hi 1 kn ∧ n 1 - kn = gaps ∧ (kn = 0 → 2 * run = 0) ∧ (kn = 1 → hi (13 * 1) = 2 * run) := by
    by_cases e : run = 0
    · rw [if_pos e] at q8
      exact ⟨0, hK.2 (by omega), by omega, fun _ => by omega, fun z => absurd z (by omega)⟩
    · rw [if_neg e] at q8
      exact ⟨1, hK.1 (by omega), by omega, fun z => absurd z (by omega), fun _ => (h1 (by omega)).2.2.1⟩
  obtain ⟨kn, k1, k2, k3, k4⟩ := K
  have z1 : sa_z 1 = 0 := rfl
  unfold wL_lawOf_308
  refine sa_highest (s := 1) (by omega) (q4 1 (by omega)) (by omega) (br_t (by rw [hg, sa_2p2]) ?_)
  refine sa_readable (s := 1) (kn := kn) (v := 2 * run) (by omega) (by omega) (by omega) hb k1 k3 (fun z => by rw [k4 z]; omega) (br_t (sa_2 run).symm ?_)
  refine sa_gaps (s := 1) (kn := kn) (by omega) (by omega) (by omega) hb k1 (q4 1 (by omega)) (by omega) (br_t (by rw [k2]) ?_)
  by_cases e : gaps = 0
  · refine sa_gapN (s := 1) (kn := kn) (g := 0) (by omega) (by omega) (by omega) hb k1 (q4 1 (by omega)) (by omega) (by omega) (by omega) ?_
    exact br_t (by rw [e, nI_0]) (sa_370 hp hq hQ' rfl H)
  · refine sa_gap0 (s := 1) (kn := kn) (v := 2 * run) (by omega) (by omega) (by omega) hb k1 (q4 1 (by omega)) (by omega) (by omega) (fun z => by rw [k3 z, z1]) k4 ?_
    exact br_f (nI_ne0 (by omega) (by omega)) (sa_370 hp hq hQ' (sa_2 run).symm H)
theorem sa_top_le {p q r : Nat} (hp : p < 12) (hq : q < 12) (hr : r < 12) : sa_top p q r ≤ 11 := by
  unfold sa_top
  omega
theorem sa_272 {post : Int32 → St0 → Prop} {mc ms kc ks : Nat} {b x4 x11 : Int32} {a1 a2 a3 a4 a5 a6 : Nat → Int32} {p q r g : Nat} (hp : p < 12) (hq : q < 12) (hr : r < 12) (hg : g + sa_gr p q r = sa_gn p q r)
    (K : wL_lawOf_308 post mc ms b x4 (nI p) (nI q) (nI (sa_top p q r)) x11 (nI (sa_gn p q r)) kc ks a1 a2 a3 a4 a5 a6) :
    wL_lawOf_272 post mc ms b x4 (nI p) (nI q) (nI r) (sa_set p q r) (nI (sa_top p q r)) x11 (nI g) kc ks a1 a2 a3 a4 a5 a6 := by
  have ht := sa_top_le hp hq hr
  have D := sa_d2k p hp q hq r hr
  rw [Bool.and_eq_true, Bool.and_eq_true] at D
  have D' := of_decide_eq_true D.2.2
  have K0 : (r = p ∨ r = q ∨ r = sa_top p q r ∨ (r + 1 = p ∨ r + 1 = q)) → wL_lawOf_308 post mc ms b x4 (nI p) (nI q) (nI (sa_top p q r)) x11 (nI g) kc ks a1 a2 a3 a4 a5 a6 := by
    intro z
    have e : sa_gr p q r = 0 := if_pos z
    rw [← hg, e] at K
    exact K
  have K1 : ¬ (r = p ∨ r = q ∨ r = sa_top p q r ∨ (r + 1 = p ∨ r + 1 = q)) → wL_lawOf_308 post mc ms b x4 (nI p) (nI q) (nI (sa_top p q r)) x11 (nI (g + 1)) kc ks a1 a2 a3 a4 a5 a6 := by
    intro z
    have e : sa_gr p q r = 1 := if_neg z
    rw [← hg, e] at K
    exact K
  unfold wL_lawOf_272
  refine pk_eq r p (fun z => K0 (by omega)) (fun z1 => pk_eq r q (fun z => K0 (by omega)) (fun z2 => pk_eq r (sa_top p q r) (fun z => K0 (by omega)) (fun z3 => br_c (fun z4 => nm_r (nI_1 g) (K1 ?_)) (fun z4 => K0 ?_))))
  · have := D'.mp z4
    omega
  · have : r + 1 = p ∨ r + 1 = q ∨ r + 1 = r := Classical.byContradiction (fun w => z4 (D'.mpr w))
    omega
theorem sa_243 {post : Int32 → St0 → Prop} {mc ms kc ks : Nat} {b x4 x11 : Int32} {a1 a2 a3 a4 a5 a6 : Nat → Int32} {p q r g : Nat} (hp : p < 12) (hq : q < 12) (hr : r < 12) (hg : g + sa_gq p q r + sa_gr p q r = sa_gn p q r)
    (K : wL_lawOf_308 post mc ms b x4 (nI p) (nI q) (nI (sa_top p q r)) x11 (nI (sa_gn p q r)) kc ks a1 a2 a3 a4 a5 a6) :
    wL_lawOf_243 post mc ms b x4 (nI p) (nI q) (nI r) (sa_set p q r) (nI (sa_top p q r)) x11 (nI g) kc ks a1 a2 a3 a4 a5 a6 := by
  have ht := sa_top_le hp hq hr
  have D := sa_d2k p hp q hq r hr
  rw [Bool.and_eq_true, Bool.and_eq_true] at D
  have D' := of_decide_eq_true D.2.1
  have K0 : (q = p ∨ q = sa_top p q r ∨ (q + 1 = p ∨ q + 1 = r)) → wL_lawOf_272 post mc ms b x4 (nI p) (nI q) (nI r) (sa_set p q r) (nI (sa_top p q r)) x11 (nI g) kc ks a1 a2 a3 a4 a5 a6 := by
    intro z
    have e : sa_gq p q r = 0 := if_pos z
    exact sa_272 hp hq hr (by omega) K
  have K1 : ¬ (q = p ∨ q = sa_top p q r ∨ (q + 1 = p ∨ q + 1 = r)) → wL_lawOf_272 post mc ms b x4 (nI p) (nI q) (nI r) (sa_set p q r) (nI (sa_top p q r)) x11 (nI (g + 1)) kc ks a1 a2 a3 a4 a5 a6 := by
    intro z
    have e : sa_gq p q r = 1 := if_neg z
    exact sa_272 hp hq hr (by omega) K
  unfold wL_lawOf_243
  refine pk_eq q p (fun z => K0 (by omega)) (fun z1 => pk_eq q (sa_top p q r) (fun z => K0 (by omega)) (fun z3 => br_c (fun z4 => nm_r (nI_1 g) (K1 ?_)) (fun z4 => K0 ?_)))
  · have := D'.mp z4
    omega
  · have : q + 1 = p ∨ q + 1 = q ∨ q + 1 = r := Classical.byContradiction (fun w => z4 (D'.mpr w))
    omega
theorem sa_219 {post : Int32 → St0 → Prop} {mc ms kc ks : Nat} {b x4 x11 : Int32} {a1 a2 a3 a4 a5 a6 : Nat → Int32} {p q r g : Nat} (hp : p < 12) (hq : q < 12) (hr : r < 12) (hg : g + sa_gp p q r + sa_gq p q r + sa_gr p q r = sa_gn p q r)
    (K : wL_lawOf_308 post mc ms b x4 (nI p) (nI q) (nI (sa_top p q r)) x11 (nI (sa_gn p q r)) kc ks a1 a2 a3 a4 a5 a6) :
    wL_lawOf_219 post mc ms b x4 (nI p) (nI q) (nI r) (sa_set p q r) (nI (sa_top p q r)) x11 (nI g) kc ks a1 a2 a3 a4 a5 a6 := by
  have ht := sa_top_le hp hq hr
  have D := sa_d2k p hp q hq r hr
  rw [Bool.and_eq_true, Bool.and_eq_true] at D
  have D' := of_decide_eq_true D.1
  have K0 : (p = sa_top p q r ∨ (p + 1 = q ∨ p + 1 = r)) → wL_lawOf_243 post mc ms b x4 (nI p) (nI q) (nI r) (sa_set p q r) (nI (sa_top p q r)) x11 (nI g) kc ks a1 a2 a3 a4 a5 a6 := by
    intro z
    have e : sa_gp p q r = 0 := if_pos z
    exact sa_243 hp hq hr (by omega) K
  have K1 : ¬ (p = sa_top p q r ∨ (p + 1 = q ∨ p + 1 = r)) → wL_lawOf_243 post mc ms b x4 (nI p) (nI q) (nI r) (sa_set p q r) (nI (sa_top p q r)) x11 (nI (g + 1)) kc ks a1 a2 a3 a4 a5 a6 := by
    intro z
    have e : sa_gp p q r = 1 := if_neg z
    exact sa_243 hp hq hr (by omega) K
  unfold wL_lawOf_219
  refine pk_eq p (sa_top p q r) (fun z => K0 (by omega)) (fun z3 => br_c (fun z4 => nm_r (nI_1 g) (K1 ?_)) (fun z4 => K0 ?_))
  · have := D'.mp z4
    omega
  · have : p + 1 = p ∨ p + 1 = q ∨ p + 1 = r := Classical.byContradiction (fun w => z4 (D'.mpr w))
    omega
theorem sa_207 {post : Int32 → St0 → Prop} {mc ms kc ks : Nat} {b x4 x11 : Int32} {a1 a2 a3 a4 a5 a6 : Nat → Int32} {p q r : Nat} (hp : p < 12) (hq : q < 12) (hr : r < 12)
    (K : wL_lawOf_308 post mc ms b x4 (nI p) (nI q) (nI (sa_top p q r)) x11 (nI (sa_gn p q r)) kc ks a1 a2 a3 a4 a5 a6) :
    wL_lawOf_207 post mc ms b x4 (nI p) (nI q) (nI r) (sa_set p q r) (nI (sa_top p q r)) x11 kc ks a1 a2 a3 a4 a5 a6 := by
  have D := of_decide_eq_true (sa_d1k p hp q hq r hr)
  have eg : sa_gn p q r = sa_g0 p q r + sa_gp p q r + sa_gq p q r + sa_gr p q r := rfl
  unfold wL_lawOf_207
  refine br_c (fun z => ?_) (fun z => ?_)
  · have e : sa_g0 p q r = 1 := if_neg (D.1.mp z)
    exact sa_219 (g := 1) hp hq hr (by omega) K
  · have e : sa_g0 p q r = 0 := if_pos (Classical.byContradiction (fun w => z (D.1.mpr w)))
    exact sa_219 (g := 0) hp hq hr (by omega) K
theorem sa_170 {post : Int32 → St0 → Prop} {mc ms kc ks : Nat} {b x4 : Int32} {a1 a2 a3 a4 a5 a6 : Nat → Int32} {p q r : Nat} (hp : p < 12) (hq : q < 12) (hr : r < 12)
    (K : wL_lawOf_308 post mc ms b x4 (nI p) (nI q) (nI (sa_top p q r)) (nI (sa_run p q r)) (nI (sa_gn p q r)) kc ks a1 a2 a3 a4 a5 a6) :
    wL_lawOf_170 post mc ms b x4 (nI p) (nI q) (nI r) (sa_set p q r) (nI (sa_top p q r)) kc ks a1 a2 a3 a4 a5 a6 := by
  have D := of_decide_eq_true (sa_d1k p hp q hq r hr)
  obtain ⟨D1, D2, D4⟩ := D
  have T : ∀ x11 : Int32, x11 = nI (sa_run p q r) → wL_lawOf_207 post mc ms b x4 (nI p) (nI q) (nI r) (sa_set p q r) (nI (sa_top p q r)) x11 kc ks a1 a2 a3 a4 a5 a6 := by
    intro x11 e
    rw [e]
    exact sa_207 hp hq hr K
  unfold wL_lawOf_170
  refine br_c (fun z => T 0 ?_) (fun z => br_c (fun z2 => T 1 ?_) (fun z2 => br_c (fun z4 => T 2 ?_) (fun z4 => T 3 ?_)))
  · unfold sa_run
    rw [if_neg (D1.mp z), nI_0]
  · have y : p = 0 ∨ q = 0 ∨ r = 0 := Classical.byContradiction (fun w => z (D1.mpr w))
    unfold sa_run
    rw [if_pos y, if_neg (D2.mp z2)]
    rfl
  · have y : p = 0 ∨ q = 0 ∨ r = 0 := Classical.byContradiction (fun w => z (D1.mpr w))
    have y2 : p = 1 ∨ q = 1 ∨ r = 1 := Classical.byContradiction (fun w => z2 (D2.mpr w))
    unfold sa_run
    rw [if_pos y, if_pos y2, if_neg (D4.mp z4)]
    rfl
  · have y : p = 0 ∨ q = 0 ∨ r = 0 := Classical.byContradiction (fun w => z (D1.mpr w))
    have y2 : p = 1 ∨ q = 1 ∨ r = 1 := Classical.byContradiction (fun w => z2 (D2.mpr w))
    have y4 : p = 2 ∨ q = 2 ∨ r = 2 := Classical.byContradiction (fun w => z4 (D4.mpr w))
    unfold sa_run
    rw [if_pos y, if_pos y2, if_pos y4]
    rfl
theorem sa_119 {post : Int32 → St0 → Prop} {mc ms kc ks : Nat} {b x4 z0 z1 : Int32} {a1 a2 a3 a4 a5 a6 : Nat → Int32} {p q r : Nat} (hp : p < 12) (hq : q < 12) (hr : r < 12) (hz : z1 = z0)
    (K : wL_lawOf_308 post mc ms b x4 (nI p) (nI q) (nI (sa_top p q r)) (nI (sa_run p q r)) (nI (sa_gn p q r)) kc ks a1 a2 a3 a4 a5 a6) :
    wL_lawOf_119 post mc ms b x4 (nI p) (nI q) (nI r) z0 z1 kc ks a1 a2 a3 a4 a5 a6 := by
  have K7 := sa_170 hp hq hr K
  have T : ∀ m, m = max q p → wL_lawOf_154 post mc ms b x4 (nI p) (nI q) (nI r) (sa_set p q r) (nI m) kc ks a1 a2 a3 a4 a5 a6 := by
    intro m em
    unfold wL_lawOf_154
    unfold sa_top at K7
    refine pk_le r m (fun z => ?_) (fun z => ?_)
    · rw [show max r (max q p) = m by omega] at K7
      exact K7
    · rw [show max r (max q p) = r by omega] at K7
      exact K7
  unfold wL_lawOf_119
  exact br_t hz (nm_e (pk_le p q (fun z => T q (by omega)) (fun z => T p (by omega))))
end
section
theorem sa_vp (b : Int32) (j : Nat) : ¬ sa_v b j < 0 := by
  unfold sa_v
  obtain ⟨k, hk, e⟩ := pk_andE (b >>> ((8 * nI j) &&& 31)) (m := 255) 8 rfl
  rw [e]
  exact nI_pos (by omega)
theorem sa_wnn {a : Nat → Int32} (h : ∀ x, ¬ a x < 0) (x0 : Nat) (b : Int32) (i : Nat) : ∀ x, ¬ sa_w a x0 b i x < 0 := by
  intro x
  unfold sa_w
  by_cases c : x0 ≤ x ∧ x < x0 + i
  · rw [if_pos c]
    exact sa_vp b _
  · rw [if_neg c]
    exact h x
theorem sa_wB (a : Nat → Int32) (v : Int32) : sa_B (sa_w a 32 v 2) v := by
  have e0 : (8 * nI 0 : Int32) = 0 := by decide
  have e1 : (8 * nI 1 : Int32) = 8 := by decide
  constructor
  · have t : sa_w a 32 v 2 32 = sa_v v (32 - 32) := if_pos (by omega)
    rw [t]
    show (v >>> ((8 * nI 0) &&& 31)) &&& 255 = _
    rw [e0, sb_shr0]
  · have t : sa_w a 32 v 2 33 = sa_v v (33 - 32) := if_pos (by omega)
    rw [t]
    show (v >>> ((8 * nI 1) &&& 31)) &&& 255 = _
    rw [e1]
theorem sa_wK {a : Nat → Int32} {v : Int32} (h : sa_B a v) {x0 : Nat} (hx : 34 ≤ x0) (b : Int32) (i : Nat) : sa_B (sa_w a x0 b i) v := by
  have t : sa_w a x0 b i 32 = a 32 := if_neg (by omega)
  have t2 : sa_w a x0 b i 33 = a 33 := if_neg (by omega)
  unfold sa_B
  rw [t, t2]
  exact h
theorem sa_mayI {a3 : Nat → Int32} {n hi : Nat → Nat} {t : Nat} (h3 : ∀ i, i < 4 → a3 i < 0) (n0 : n 0 = 0) (n2 : n 2 = 0) (n3 : n 3 = 0) (n1 : n 1 ≤ 13) (hg : sa_hg sa_z n hi 1 ≤ 24) (ht : t ≤ 24) : sa_may a3 sa_z n hi 1 t := by
  have hn : ∀ i, i < 4 → n i ≤ 13 := by
    intro i h4
    match i, h4 with
    | 0, _ => omega
    | 1, _ => omega
    | 2, _ => omega
    | 3, _ => omega
  obtain ⟨hcr, hc⟩ := sa_crI (d := 0) (g := 0) (hi := hi) h3 hn rfl rfl rfl rfl (sa_hg0 n0) rfl (sa_hg0 n2) (sa_hg0 n3) (by omega) hg
  exact ⟨hcr, by show 0 + 24 ≤ 240; omega, by show t ≤ 0 + 24; omega, by omega, by omega, by omega⟩
theorem sa_anO {n lo hi : Nat → Nat} {f t j : Nat} (h : j ≠ 1) : sa_an n lo hi 1 f t j = n j := sa_un h
theorem sa_run_le (p q r : Nat) : sa_run p q r ≤ 3 := by
  unfold sa_run
  by_cases a : p = 0 ∨ q = 0 ∨ r = 0
  · rw [if_pos a]
    by_cases b : p = 1 ∨ q = 1 ∨ r = 1
    · rw [if_pos b]
      by_cases c : p = 2 ∨ q = 2 ∨ r = 2
      · rw [if_pos c]
        omega
      · rw [if_neg c]
        omega
    · rw [if_neg b]
      omega
  · rw [if_neg a]
    omega
theorem sa_run_pos {p q r : Nat} (h : 0 < sa_run p q r) : p = 0 ∨ q = 0 ∨ r = 0 := by
  refine Classical.byContradiction (fun w => ?_)
  have e : sa_run p q r = 0 := if_neg w
  omega
theorem sa_mkQ {b : Int32} {a1 a3 : Nat → Int32} {p q r : Nat} (hp : p < 12) (hq : q < 12) (hr : r < 12) (h3 : ∀ i, i < 4 → a3 i < 0) (hnn : ∀ x, ¬ a1 x < 0) (hB : 0 < sa_run p q r → sa_B a1 (sa_first b p q)) :
    sa_Q (sa_top p q r) (sa_run p q r) (sa_gn p q r) (sa_first b p q) a1 a3 (sa_n3 p q r) (sa_l3 p q r) (sa_h3 p q r) := by
  obtain ⟨c1, c2, c3⟩ := sa_fc1 hp hq hr
  have c4 := sa_fc4 hp hq hr
  refine ⟨sa_top_le hp hq hr, sa_run_le p q r, by omega, h3, hnn, hB, ⟨⟨rfl, rfl, rfl, rfl⟩, ⟨rfl, rfl, rfl⟩, c2, ?_, ?_, by omega, ?_, ?_⟩, c4⟩
  · intro k hk
    have t := sa_fc2 hp hq hr k hk
    exact ⟨by have := t.1; show sa_l3 p q r (13 + k) ≤ 1000; omega, by have := t.2.1; show sa_h3 p q r (13 + k) ≤ 1000; omega⟩
  · unfold sa_hg
    rw [if_neg (by omega), ← c3, show 13 * 1 + sa_n3 p q r 1 - 1 = 12 + sa_n3 p q r 1 by omega]
  · intro z
    have t := sa_fc3 hp hq hr (by omega)
    exact ⟨c1, t.1, t.2, fun k h1 hk => (sa_fc2 hp hq hr k hk).2.2 (Or.inr h1)⟩
  · intro z k hk
    have t := (sa_fc2 hp hq hr k hk).2.2 (Or.inl (by omega))
    omega
theorem sa_81 {post : Int32 → St0 → Prop} {mc ms kc ks : Nat} {b x4 z0 z1 : Int32} {a1 a3 : Nat → Int32} {p q r : Nat} (hp : p < 12) (hq : q < 12) (hr : r < 12) (h3 : ∀ i, i < 4 → a3 i < 0) (hz : z1 = z0) (hnn : ∀ x, ¬ a1 x < 0)
    (hB0 : p = 0 → sa_B a1 b) (hB1 : p ≠ 0 → q = 0 → sa_B a1 (b + 1)) (H : post 1 ()) :
    wL_lawOf_81 post mc ms b x4 (nI p) (nI q) (nI r) z0 z1 kc ks a1 (sa_c sa_z) a3 (sa_c (sa_n2 p q)) (sa_c (sa_l2 p q)) (sa_c (sa_h2 p q)) := by
  obtain ⟨f1, f2, f3, f4⟩ := sa_fb p hp q hq
  have hg : sa_hg sa_z (sa_n2 p q) (sa_h2 p q) 1 ≤ 24 := by
    unfold sa_hg
    rw [if_neg (by omega), show 13 * 1 + sa_n2 p q 1 - 1 = 12 + sa_n2 p q 1 by omega]
    exact f3
  have hm : sa_may a3 sa_z (sa_n2 p q) (sa_h2 p q) 1 (2 * r + 2) := sa_mayI h3 rfl rfl rfl (by omega) hg (by omega)
  have hb : sa_bd (sa_n2 p q) (sa_l2 p q) (sa_h2 p q) 1 := by
    intro k hk
    have t := f4 k (by omega) hk
    exact ⟨by have := t.1; show sa_l2 p q (13 + k) ≤ 1000; omega, by have := t.2; show sa_h2 p q (13 + k) ≤ 1000; omega⟩
  have F0 : p = 0 → sa_first b p q = b := fun z => if_pos z
  have F1 : p ≠ 0 → q = 0 → sa_first b p q = b + 1 := by
    intro z z2
    unfold sa_first
    rw [if_neg z, if_pos z2]
  have F2 : p ≠ 0 → q ≠ 0 → sa_first b p q = b + 2 := by
    intro z z2
    unfold sa_first
    rw [if_neg z, if_neg z2]
  unfold wL_lawOf_81
  rw [sa_2 r]
  refine br_t hz ?_
  by_cases e : r = p ∨ r = q
  · have hQ : sa_Q (sa_top p q r) (sa_run p q r) (sa_gn p q r) (sa_first b p q) a1 a3 (sa_n3 p q r) (sa_l3 p q r) (sa_h3 p q r) := by
      refine sa_mkQ hp hq hr h3 hnn (fun z => ?_)
      have y := sa_run_pos z
      by_cases p0 : p = 0
      · rw [F0 p0]
        exact hB0 p0
      · rw [F1 p0 (by omega)]
        exact hB1 p0 (by omega)
    have K := sa_119 (z0 := 0) (z1 := 0) hp hq hr rfl (sa_308 (mc := mc) (ms := ms) (kc := kc) (ks := ks) (x4 := x4) hp hq hQ H)
    obtain ⟨k, hk, hk1, hk2⟩ := sa_fb1 hp hq hr e
    refine sa_pieceK (s := 1) (o := 2 * r) (len := 2) (by omega) (by omega) (by omega) (by omega) (Nat.zero_le _) hm (by omega) hb (fun i hi => ⟨k, hk, ?_⟩) ?_
    · show sa_l2 p q (13 + k) ≤ 2 * r + i ∧ 2 * r + i < sa_h2 p q (13 + k)
      omega
    · exact pk_eq r p (fun _ => K) (fun z => pk_eq r q (fun _ => K) (fun z2 => absurd e (by omega)))
  · have hQ : sa_Q (sa_top p q r) (sa_run p q r) (sa_gn p q r) (sa_first b p q) (sa_w a1 (32 * 1 + 2 * r) (b + 2) 2) a3 (sa_n3 p q r) (sa_l3 p q r) (sa_h3 p q r) := by
      refine sa_mkQ hp hq hr h3 (sa_wnn hnn _ _ _) (fun z => ?_)
      have y := sa_run_pos z
      by_cases p0 : p = 0
      · rw [F0 p0]
        exact sa_wK (hB0 p0) (by omega) _ _
      · by_cases q0 : q = 0
        · rw [F1 p0 q0]
          exact sa_wK (hB1 p0 q0) (by omega) _ _
        · rw [F2 p0 q0, show 32 * 1 + 2 * r = 32 by omega]
          exact sa_wB _ _
    have K := sa_119 (z0 := 2) (z1 := 2) hp hq hr rfl (sa_308 (mc := mc) (ms := ms) (kc := kc) (ks := ks) (x4 := x4) hp hq hQ H)
    refine sa_pieceU (s := 1) (o := 2 * r) (len := 2) (by omega) (by omega) (by omega) (by omega) (Nat.zero_le _) hm (by omega) hb (fun i hi k hk g => ?_) ?_
    · have g' : sa_l2 p q (13 + k) ≤ 2 * r + i ∧ 2 * r + i < sa_h2 p q (13 + k) := g
      have t := sa_fb0 hp hq hr e k hk
      omega
    · exact pk_eq r p (fun z => absurd (Or.inl z) e) (fun z => pk_eq r q (fun z2 => absurd (Or.inr z2) e) (fun _ => K))
theorem sa_init {post : St2 → Prop} {u : St1} (H : ∀ a3 : Nat → Int32, (∀ i, i < 4 → a3 i < 0) → post ((fun _ => 0), sa_c sa_z, a3, sa_c sa_z, sa_c sa_z, sa_c sa_z)) : wpX_init post 6 244 u := by
  unfold wpX_init
  refine ⟨by omega, by omega, by omega, by omega, by omega, by omega, by omega, by omega, by omega, by omega, by omega, by omega, ?_⟩
  refine loop_0 (fun fu i a => wX_init_52 post 6 244 6 244 fu (nI i) (fun _ => 0) (fun _ => 0) a (fun _ => 0) (fun _ => 0) (fun _ => 0)) (fun i a => ∀ j, j < i → a j < 0) 4 (fun _ => 0) (fun j hj => absurd hj (by omega)) ?_ ?_
  · intro fu a ha
    exact pk_le 4 4 (fun _ => H a ha) (fun z => absurd z (by omega))
  · intro fu i a hi ha hw
    refine pk_le 4 i (fun z => absurd z (by omega)) (fun _ => ⟨pk_in i 4 hi, nm_e (nm_r (nI_1 i) (hw _ (fun j hj => ?_)))⟩)
    rw [nI_clamp (by omega)]
    by_cases e : j = i
    · rw [e, pk_us]
      decide
    · rw [pk_un e]
      exact ha j (by omega)
theorem sa_mod (x : Int32) : ∃ p, p < 12 ∧ (x &&& 255) - (x &&& 255) / 12 * 12 = nI p := by
  obtain ⟨j, hj, e⟩ := pk_andE x (m := 255) 8 rfl
  rw [e]
  exact ⟨j % 12, Nat.mod_lt _ (by omega), pk_rem (d := 12) (by omega) (by omega) (by omega)⟩
theorem sa_lawOf {post : Int32 → St0 → Prop} {u : St0} (x0 x1 x2 b x4 : Int32) (H : post 1 ()) : wpL_lawOf post 7 250 u x0 x1 x2 b x4 := by
  obtain ⟨p, hp, ep⟩ := sa_mod x0
  obtain ⟨q, hq, eq⟩ := sa_mod x1
  obtain ⟨r, hr, er⟩ := sa_mod x2
  unfold wpL_lawOf
  refine ⟨by omega, by omega, 6, 244, by omega, by omega, sa_init (fun a3 h3 => ?_)⟩
  refine ⟨by decide, nm_r ep ⟨by decide, nm_r eq ⟨by decide, nm_r er ?_⟩⟩⟩
  rw [sa_2 p, sa_2 q]
  have hm0 : sa_may a3 sa_z sa_z sa_z 1 (2 * p + 2) := sa_mayI h3 rfl rfl rfl (by show 0 ≤ 13; omega) (by show 0 ≤ 24; omega) (by omega)
  refine sa_pieceU (s := 1) (o := 2 * p) (len := 2) (by omega) (by omega) (by omega) (by omega) (Nat.zero_le _) hm0 (by show 0 ≤ 12; omega) (fun k hk => absurd hk (Nat.not_lt_zero k)) (fun i _ k hk => absurd hk (Nat.not_lt_zero k)) (br_t rfl ?_)
  have nn1 : ∀ x, ¬ sa_w (fun _ => 0) (32 * 1 + 2 * p) b 2 x < 0 := sa_wnn (fun _ => by decide) _ _ _
  have B1 : p = 0 → sa_B (sa_w (fun _ => 0) (32 * 1 + 2 * p) b 2) b := by
    intro z
    rw [show 32 * 1 + 2 * p = 32 by omega]
    exact sa_wB _ _
  obtain ⟨a1, a2, a4⟩ := sa_fa p hp
  have hg1 : sa_hg sa_z (sa_n1 p) (sa_h1 p) 1 ≤ 24 := by
    unfold sa_hg
    rw [a1]
    show sa_h1 p 13 ≤ 24
    omega
  have hm1 : sa_may a3 sa_z (sa_n1 p) (sa_h1 p) 1 (2 * q + 2) := sa_mayI h3 rfl rfl rfl (by omega) hg1 (by omega)
  have hb1 : sa_bd (sa_n1 p) (sa_l1 p) (sa_h1 p) 1 := by
    intro k hk
    have k0 : k = 0 := by omega
    rw [k0]
    show sa_l1 p 13 ≤ 1000 ∧ sa_h1 p 13 ≤ 1000
    omega
  by_cases e : q = p
  · refine sa_pieceK (s := 1) (o := 2 * q) (len := 2) (n := sa_n1 p) (lo := sa_l1 p) (hi := sa_h1 p) (by omega) (by omega) (by omega) (by omega) (Nat.zero_le _) hm1 (by omega) hb1 (fun i hi => ⟨0, by omega, ?_⟩) ?_
    · show sa_l1 p 13 ≤ 2 * q + i ∧ 2 * q + i < sa_h1 p 13
      omega
    · exact pk_eq q p (fun _ => sa_81 hp hq hr h3 rfl nn1 B1 (fun z z2 => absurd (e.symm.trans z2) z) H) (fun z => absurd e z)
  · refine sa_pieceU (s := 1) (o := 2 * q) (len := 2) (n := sa_n1 p) (lo := sa_l1 p) (hi := sa_h1 p) (by omega) (by omega) (by omega) (by omega) (Nat.zero_le _) hm1 (by omega) hb1 (fun i hi k hk g => ?_) ?_
    · have k0 : k = 0 := by omega
      rw [k0] at g
      have g' : sa_l1 p 13 ≤ 2 * q + i ∧ 2 * q + i < sa_h1 p 13 := g
      omega
    · refine pk_eq q p (fun z => absurd z e) (fun _ => sa_81 hp hq hr h3 rfl (sa_wnn nn1 _ _ _) (fun z => sa_wK (B1 z) (by omega) _ _) (fun z z2 => ?_) H)
      rw [show 32 * 1 + 2 * q = 32 by omega]
      exact sa_wB _ _
theorem sa_cell {post : Int32 → Prop} {L : Nat} {xs : Nat → Int32} {u : St0} (hL : L ≤ 5) (k : Nat) (hk : k < 5) (H : ∀ r, post r) : wpL_cellAt post L xs u (nI k) :=
  pk_le L k (fun _ => H _) (fun z => ⟨pk_in k L z, H _⟩)
theorem i_vc (xs : Nat → Int32) (L : Nat) (hL : L ≤ 5) : wpL_law (fun r => r = 1) L xs := by
  unfold wpL_law
  exact sa_cell hL 0 (by omega) (fun r1 => sa_cell hL 1 (by omega) (fun r2 => sa_cell hL 2 (by omega) (fun r3 => sa_cell hL 3 (by omega) (fun r4 => sa_cell hL 4 (by omega) (fun r5 => ⟨7, 250, by omega, by omega, sa_lawOf r1 r2 r3 r4 r5 rfl⟩)))))
end
