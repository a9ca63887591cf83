section
/-- the order of the versions in the list: 0 1 3 2 4 -/
def pm_rk : Nat → Nat
  | 0 => 0
  | 1 => 1
  | 2 => 3
  | 3 => 2
  | n + 4 => n + 4
/-- what is there, as the class holds it: a flag and a value -/
def pm_th : Option Int32 → Int32
  | none => 0
  | some _ => 1
def pm_vl : Option Int32 → Int32
  | none => 0
  | some x => x
/-- the last entry of a key's list that is not behind version v -/
def pm_la (v : Nat) : List (Nat × Option Int32) → Option (Nat × Option Int32) → Option (Nat × Option Int32)
  | [], d => d
  | (w, q) :: L, d => if pm_rk v < pm_rk w then d else pm_la v L (some (w, q))
def pm_oo : Option (Nat × Option Int32) → Option Int32
  | none => none
  | some e => e.2
/-- what version v holds, by a key's list -/
def pm_lk (v : Nat) (L : List (Nat × Option Int32)) : Option Int32 := pm_oo (pm_la v L none)
/-- a list with a new entry in its place -/
def pm_ins (v : Nat) (o : Option Int32) : List (Nat × Option Int32) → List (Nat × Option Int32)
  | [] => [(v, o)]
  | (w, q) :: L => if pm_rk v < pm_rk w then (v, o) :: (w, q) :: L else (w, q) :: pm_ins v o L
/-- the version of the first entry behind v -/
def pm_nx (v : Nat) : List (Nat × Option Int32) → Option Nat
  | [] => none
  | (w, _) :: L => if pm_rk v < pm_rk w then some w else pm_nx v L
def pm_st (v : Nat) : List (Nat × Option Int32) → Prop
  | [] => True
  | (w, _) :: _ => pm_rk v < pm_rk w
def pm_hd : List (Nat × Option Int32) → Option Nat
  | [] => none
  | (w, _) :: _ => some w
theorem pm_st_la {v : Nat} {L : List (Nat × Option Int32)} (h : pm_st v L) (d : Option (Nat × Option Int32)) : pm_la v L d = d := by
  cases L with
  | nil => rfl
  | cons b L =>
    obtain ⟨w, q⟩ := b
    exact if_pos h
theorem pm_st_ins {v : Nat} {L : List (Nat × Option Int32)} (h : pm_st v L) (o : Option Int32) : pm_ins v o L = (v, o) :: L := by
  cases L with
  | nil => rfl
  | cons b L =>
    obtain ⟨w, q⟩ := b
    exact if_pos h
theorem pm_st_nx {v : Nat} {L : List (Nat × Option Int32)} (h : pm_st v L) : pm_nx v L = pm_hd L := by
  cases L with
  | nil => rfl
  | cons b L =>
    obtain ⟨w, q⟩ := b
    exact if_pos h
/-- the scan of L by v ends at the entry (w, o), which stands between L0 and L2 -/
def pm_sp (v : Nat) (L L0 : List (Nat × Option Int32)) (w : Nat) (o : Option Int32) (L2 : List (Nat × Option Int32)) : Prop :=
  L = L0 ++ (w, o) :: L2 ∧ (∀ d, pm_la v L d = some (w, o)) ∧ (∀ o', pm_ins v o' L = L0 ++ (w, o) :: (v, o') :: L2) ∧ pm_nx v L = pm_hd L2
theorem pm_sp_0 {v w : Nat} {o : Option Int32} {L2 : List (Nat × Option Int32)} (hr : ¬ pm_rk v < pm_rk w) (h : pm_st v L2) : pm_sp v ((w, o) :: L2) [] w o L2 :=
  ⟨rfl, fun _ => (if_neg hr).trans (pm_st_la h _), fun o' => (if_neg hr).trans (congrArg (List.cons (w, o)) (pm_st_ins h o')), (if_neg hr).trans (pm_st_nx h)⟩
theorem pm_sp_s {v w w' : Nat} {o o' : Option Int32} {L L0 L2 : List (Nat × Option Int32)} (hr : ¬ pm_rk v < pm_rk w') (h : pm_sp v L L0 w o L2) : pm_sp v ((w', o') :: L) ((w', o') :: L0) w o L2 :=
  ⟨congrArg (List.cons (w', o')) h.1, fun _ => (if_neg hr).trans (h.2.1 _), fun q => (if_neg hr).trans (congrArg (List.cons (w', o')) (h.2.2.1 q)), (if_neg hr).trans h.2.2.2⟩
/-- a way along a key's entries: from address h over the entries of the list to address h' -/
def pm_path (c e κ : Nat) (ow : Nat → Nat) (a5 a6 a7 a8 : Nat → Int32) : Int32 → List (Nat × Option Int32) → Int32 → Prop
  | h, [], h' => h = h'
  | h, (v, o) :: L, h' => ∃ p : Nat, h = nI p ∧ p < e ∧ ow p = κ ∧ v < c ∧ a5 p = nI v ∧ a7 p = pm_th o ∧ a6 p = pm_vl o ∧ pm_path c e κ ow a5 a6 a7 a8 (a8 p) L h'
/-- the entries' picture: M says each key's list -/
def pm_H (c e : Nat) (a4 a5 a6 a7 a8 : Nat → Int32) (M : Nat → List (Nat × Option Int32)) : Prop :=
  ∃ ow : Nat → Nat, ∀ κ, κ < 32 → pm_path c e κ ow a5 a6 a7 a8 (a4 κ) (M κ) (-1)
/-- the labels order the versions -/
def pm_lab (c : Nat) (a2 : Nat → Int64) : Prop := ∀ v, v < c → ∀ w, w < c → (a2 v < a2 w ↔ pm_rk v < pm_rk w)
def pm_mu (M : Nat → List (Nat × Option Int32)) (κ : Nat) (L : List (Nat × Option Int32)) : Nat → List (Nat × Option Int32) := fun j => if j = κ then L else M j
theorem pm_mu_s {M : Nat → List (Nat × Option Int32)} {κ : Nat} {L : List (Nat × Option Int32)} : pm_mu M κ L κ = L := if_pos rfl
theorem pm_mu_n {M : Nat → List (Nat × Option Int32)} {κ j : Nat} {L : List (Nat × Option Int32)} (h : j ≠ κ) : pm_mu M κ L j = M j := if_neg h
theorem pm_H_c {c e : Nat} {a4 a5 a6 a7 a8 : Nat → Int32} {M M' : Nat → List (Nat × Option Int32)} (h : pm_H c e a4 a5 a6 a7 a8 M) (hm : ∀ j, j < 32 → M j = M' j) : pm_H c e a4 a5 a6 a7 a8 M' := by
  obtain ⟨ow, h⟩ := h
  refine ⟨ow, fun κ hκ => ?_⟩
  rw [← hm κ hκ]
  exact h κ hκ
theorem pm_nn {p : Nat} (h : p < 2 ^ 31) : ¬ nI p = -1 := by
  intro q
  have a := nI_toInt h
  rw [q] at a
  have b : (-1 : Int32).toInt = -1 := by decide
  rw [b] at a
  omega
theorem pm_fr {c c' e e' κ : Nat} {ow ow' : Nat → Nat} {a5 a6 a7 a8 b5 b6 b7 b8 : Nat → Int32} (hc : c ≤ c') (he : e ≤ e') :
    ∀ (L : List (Nat × Option Int32)) (h h' : Int32), (∀ q v, q < e → ow q = κ → a5 q = nI v → v ∈ L.map Prod.fst → ow' q = κ ∧ b5 q = a5 q ∧ b6 q = a6 q ∧ b7 q = a7 q ∧ b8 q = a8 q) →
      pm_path c e κ ow a5 a6 a7 a8 h L h' → pm_path c' e' κ ow' b5 b6 b7 b8 h L h' := by
  intro L
  induction L with
  | nil => intro h h' _ hp; exact hp
  | cons b L ih =>
    obtain ⟨v, o⟩ := b
    intro h h' hf hp
    obtain ⟨p, h1, hpe, how, hvc, h5, h7, h6, ht⟩ := hp
    obtain ⟨g0, g5, g6, g7, g8⟩ := hf p v hpe how h5 List.mem_cons_self
    refine ⟨p, h1, by omega, g0, by omega, g5.trans h5, g7.trans h7, g6.trans h6, ?_⟩
    rw [g8]
    exact ih _ _ (fun q w hq hw h5' hm => hf q w hq hw h5' (List.mem_cons_of_mem _ hm)) ht
theorem pm_ap {c e κ : Nat} {ow : Nat → Nat} {a5 a6 a7 a8 : Nat → Int32} {L2 : List (Nat × Option Int32)} {h' : Int32} :
    ∀ (L1 : List (Nat × Option Int32)) (h m : Int32), pm_path c e κ ow a5 a6 a7 a8 h L1 m → pm_path c e κ ow a5 a6 a7 a8 m L2 h' → pm_path c e κ ow a5 a6 a7 a8 h (L1 ++ L2) h' := by
  intro L1
  induction L1 with
  | nil =>
    intro h m h1 h2
    have e1 : h = m := h1
    rw [e1]
    exact h2
  | cons b L ih =>
    obtain ⟨v, o⟩ := b
    intro h m h1 h2
    obtain ⟨p, g1, hpe, how, hvc, h5, h7, h6, ht⟩ := h1
    exact ⟨p, g1, hpe, how, hvc, h5, h7, h6, ih _ _ ht h2⟩
theorem pm_H_up {c c' e : Nat} {a4 a5 a6 a7 a8 : Nat → Int32} {M : Nat → List (Nat × Option Int32)} (hc : c ≤ c') (h : pm_H c e a4 a5 a6 a7 a8 M) : pm_H c' e a4 a5 a6 a7 a8 M := by
  obtain ⟨ow, h⟩ := h
  exact ⟨ow, fun κ hκ => pm_fr hc (Nat.le_refl e) _ _ _ (fun q v _ hw _ _ => ⟨hw, rfl, rfl, rfl, rfl⟩) (h κ hκ)⟩
/-- a new entry at the head of a key's list -/
theorem pm_new0 {c e κ v : Nat} {o : Option Int32} {ow : Nat → Nat} {a4 a5 a6 a7 a8 : Nat → Int32} {M : Nat → List (Nat × Option Int32)} (hv : v < c)
    (h : ∀ κ, κ < 32 → pm_path c e κ ow a5 a6 a7 a8 (a4 κ) (M κ) (-1)) (hst : pm_st v (M κ)) :
    pm_H c (e + 1) (upd a4 κ (nI e)) (upd a5 e (nI v)) (upd a6 e (pm_vl o)) (upd a7 e (pm_th o)) (upd a8 e (a4 κ)) (pm_mu M κ (pm_ins v o (M κ))) := by
  refine ⟨fun q => if q = e then κ else ow q, fun j hj => ?_⟩
  have F : pm_path c (e + 1) j (fun q => if q = e then κ else ow q) (upd a5 e (nI v)) (upd a6 e (pm_vl o)) (upd a7 e (pm_th o)) (upd a8 e (a4 κ)) (a4 j) (M j) (-1) :=
    pm_fr (Nat.le_refl c) (Nat.le_succ e) _ _ _ (fun q w hq hw _ _ => ⟨(if_neg (Nat.ne_of_lt hq)).trans hw, pk_un (Nat.ne_of_lt hq), pk_un (Nat.ne_of_lt hq), pk_un (Nat.ne_of_lt hq), pk_un (Nat.ne_of_lt hq)⟩) (h j hj)
  by_cases hjk : j = κ
  · subst hjk
    rw [pm_mu_s, pm_st_ins hst, pk_us]
    refine ⟨e, rfl, Nat.lt_succ_self e, if_pos rfl, hv, pk_us, pk_us, pk_us, ?_⟩
    rw [pk_us]
    exact F
  · rw [pm_mu_n hjk, pk_un hjk]
    exact F
/-- a new entry behind the entry p of a key's list -/
theorem pm_new1 {c e κ v w p : Nat} {o q : Option Int32} {ow : Nat → Nat} {a4 a5 a6 a7 a8 : Nat → Int32} {M : Nat → List (Nat × Option Int32)} {L0 L2 : List (Nat × Option Int32)} (hv : v < c) (hc : c ≤ 40)
    (h : ∀ κ, κ < 32 → pm_path c e κ ow a5 a6 a7 a8 (a4 κ) (M κ) (-1)) (hnd : ((M κ).map Prod.fst).Nodup) (hs : pm_sp v (M κ) L0 w q L2)
    (hpe : p < e) (how : ow p = κ) (hwc : w < c) (h5 : a5 p = nI w) (h7 : a7 p = pm_th q) (h6 : a6 p = pm_vl q)
    (hp0 : pm_path c e κ ow a5 a6 a7 a8 (a4 κ) L0 (nI p)) (hp2 : pm_path c e κ ow a5 a6 a7 a8 (a8 p) L2 (-1)) :
    pm_H c (e + 1) a4 (upd a5 e (nI v)) (upd a6 e (pm_vl o)) (upd a7 e (pm_th o)) (upd (upd a8 e (a8 p)) p (nI e)) (pm_mu M κ (pm_ins v o (M κ))) := by
  refine ⟨fun q => if q = e then κ else ow q, fun j hj => ?_⟩
  have G : ∀ (j : Nat) (L : List (Nat × Option Int32)) (y z : Int32), (j = κ → w ∉ L.map Prod.fst) → pm_path c e j ow a5 a6 a7 a8 y L z →
      pm_path c (e + 1) j (fun q => if q = e then κ else ow q) (upd a5 e (nI v)) (upd a6 e (pm_vl o)) (upd a7 e (pm_th o)) (upd (upd a8 e (a8 p)) p (nI e)) y L z := by
    intro j L y z hj hp
    refine pm_fr (Nat.le_refl c) (Nat.le_succ e) _ _ _ (fun t u ht hw hu hm => ?_) hp
    have ne := Nat.ne_of_lt ht
    have np : t ≠ p := by
      intro z
      rw [z] at hw hu
      have e1 : j = κ := hw.symm.trans how
      have e2 : nI u = nI w := hu.symm.trans h5
      have hb : u < c := by
        clear hj
        revert hm hp
        have : ∀ (L : List (Nat × Option Int32)) (y z : Int32), pm_path c e j ow a5 a6 a7 a8 y L z → u ∈ L.map Prod.fst → u < c := by
          intro L
          induction L with
          | nil => intro y z _ hm; exact absurd hm List.not_mem_nil
          | cons b L ih =>
            obtain ⟨v', o'⟩ := b
            intro y z hp hm
            obtain ⟨p', _, _, _, hvc, _, _, _, ht⟩ := hp
            rcases List.mem_cons.mp hm with g | g
            · rw [g]; exact hvc
            · exact ih _ _ ht g
        intro hp hm
        exact this L _ _ hp hm
      have e3 : u = w := (nI_eq (by omega) (by omega)).mp e2
      rw [e3] at hm
      exact hj e1 hm
    exact ⟨(if_neg ne).trans hw, pk_un ne, pk_un ne, pk_un ne, (pk_un np).trans (pk_un ne)⟩
  by_cases hjk : j = κ
  · subst hjk
    rw [pm_mu_s, hs.2.2.1 o]
    rw [hs.1, List.map_append, List.map_cons] at hnd
    have n1 := List.nodup_append.mp hnd
    have n2 : w ∉ L0.map Prod.fst := fun z => n1.2.2 w z w List.mem_cons_self rfl
    have n3 : w ∉ L2.map Prod.fst := (List.nodup_cons.mp n1.2.1).1
    refine pm_ap L0 _ (nI p) (G _ _ _ _ (fun _ => n2) hp0) ?_
    have ne := Nat.ne_of_lt hpe
    refine ⟨p, rfl, by omega, (if_neg ne).trans how, hwc, (pk_un ne).trans h5, (pk_un ne).trans h7, (pk_un ne).trans h6, ?_⟩
    rw [pk_us]
    refine ⟨e, rfl, by omega, if_pos rfl, hv, pk_us, pk_us, pk_us, ?_⟩
    rw [pk_un (Nat.ne_of_gt hpe), pk_us]
    exact G _ _ _ _ (fun _ => n3) hp2
  · rw [pm_mu_n hjk]
    exact G _ _ _ _ (fun z => absurd z hjk) (h j hj)
end
section
section
variable {f0 f1 f2 f3 : Int32} {a1 a3 a4 a5 a6 a7 a8 : Nat → Int32} {a2 : Nat → Int64}
theorem pm_adv {post : Int32 → Prop} {c e κ v : Nat} {ow : Nat → Nat} (hl : pm_lab c a2) (hv : v < c) (hc : c ≤ 40) (he : e ≤ 640) :
    ∀ (L : List (Nat × Option Int32)) (h x4 : Int32), pm_path c e κ ow a5 a6 a7 a8 h L (-1) → (pm_st v L → post x4) →
      (∀ (L0 : List (Nat × Option Int32)) (w : Nat) (o : Option Int32) (L2 : List (Nat × Option Int32)) (p : Nat), pm_sp v L L0 w o L2 → p < e → ow p = κ → w < c → a5 p = nI w → a7 p = pm_th o → a6 p = pm_vl o →
        pm_path c e κ ow a5 a6 a7 a8 h L0 (nI p) → pm_path c e κ ow a5 a6 a7 a8 (a8 p) L2 (-1) → post (nI p)) →
      ∃ n, wX_advance_25 post (nI v) f0 f1 f2 f3 a1 a2 a3 a4 a5 a6 a7 a8 n x4 h := by
  intro L
  induction L with
  | nil =>
    intro h x4 hp H0 _
    exact ⟨0 + 1, br_t hp (H0 trivial)⟩
  | cons b L ih =>
    obtain ⟨w, o⟩ := b
    intro h x4 hp H0 H1
    obtain ⟨p, e1, hpe, how, hwc, h5, h7, h6, ht⟩ := hp
    subst e1
    have hpc : (nI p).toNatClampNeg = p := nI_clamp (by omega)
    have i5 : vp_in (a5 (nI p).toNatClampNeg) 40 := by
      rw [hpc, h5]
      exact pk_in w 40 (by omega)
    have iff5 : a2 (nI v).toNatClampNeg < a2 (a5 (nI p).toNatClampNeg).toNatClampNeg ↔ pm_rk v < pm_rk w := by
      rw [hpc, h5, nI_clamp (show v < 2 ^ 31 by omega), nI_clamp (show w < 2 ^ 31 by omega)]
      exact hl v hv w hwc
    by_cases hr : pm_rk v < pm_rk w
    · exact ⟨0 + 1, br_f (pm_nn (by omega)) ⟨pk_in p 640 (by omega), i5, pk_in v 40 (by omega), br_t (iff5.mpr hr) (H0 hr)⟩⟩
    · have key : ∃ n, wX_advance_25 post (nI v) f0 f1 f2 f3 a1 a2 a3 a4 a5 a6 a7 a8 n (nI p) (a8 p) :=
        ih (a8 p) (nI p) ht (fun hs => H1 [] w o L p (pm_sp_0 hr hs) hpe how hwc h5 h7 h6 rfl ht)
          (fun L0 w' o' L2 p' hsp g1 g2 g3 g4 g5 g6 g7 g8 => H1 ((w, o) :: L0) w' o' L2 p' (pm_sp_s hr hsp) g1 g2 g3 g4 g5 g6 ⟨p, rfl, hpe, how, hwc, h5, h7, h6, g7⟩ g8)
      obtain ⟨n, hn⟩ := key
      exact ⟨n + 1, br_f (pm_nn (by omega)) ⟨pk_in p 640 (by omega), i5, pk_in v 40 (by omega), br_f (fun z => hr (iff5.mp z)) ⟨pk_in p 640 (by omega), nm_r (by rw [hpc]) hn⟩⟩⟩
theorem pm_advance {post : Int32 → Prop} {c e κ v : Nat} {ow : Nat → Nat} {L : List (Nat × Option Int32)} (hl : pm_lab c a2) (hv : v < c) (hc : c ≤ 40) (he : e ≤ 640) (hκ : κ < 32)
    (hp : pm_path c e κ ow a5 a6 a7 a8 (a4 κ) L (-1)) (H0 : pm_st v L → post (-1))
    (H1 : ∀ (L0 : List (Nat × Option Int32)) (w : Nat) (o : Option Int32) (L2 : List (Nat × Option Int32)) (p : Nat), pm_sp v L L0 w o L2 → p < e → ow p = κ → w < c → a5 p = nI w → a7 p = pm_th o → a6 p = pm_vl o →
        pm_path c e κ ow a5 a6 a7 a8 (a4 κ) L0 (nI p) → pm_path c e κ ow a5 a6 a7 a8 (a8 p) L2 (-1) → post (nI p)) :
    wpX_advance post (f0, f1, f2, f3, a1, a2, a3, a4, a5, a6, a7, a8) (nI κ) (-1) (nI v) := by
  unfold wpX_advance
  exact br_t rfl ⟨pk_in κ 32 hκ, nm_r (by rw [nI_clamp (show κ < 2 ^ 31 by omega)]) (pm_adv hl hv hc he L _ _ hp H0 H1)⟩
theorem pm_one : ¬ (1 : Int32) = 0 := by decide
theorem pm_bz : narrow .boolean (.int 0) = .int 0 ∧ fits .boolean (.int 0) = true := ⟨by rfl, by rfl⟩
theorem pm_bo : narrow .boolean (.int 1) = .int 1 ∧ fits .boolean (.int 1) = true := ⟨by rfl, by rfl⟩
theorem pm_l27 {post : St2 → Prop} {x3 : Int32} (H : post (f0, f1, 0, 0, a1, a2, a3, a4, a5, a6, a7, a8)) : wX_look_27 post x3 f0 f1 f2 f3 a1 a2 a3 a4 a5 a6 a7 a8 := by
  unfold wX_look_27 wX_look_28
  exact ⟨pm_bz.1, pm_bz.2, br_t rfl H⟩
theorem pm_look {post : St2 → Prop} {c e κ v : Nat} {M : Nat → List (Nat × Option Int32)} (hl : pm_lab c a2) (hv : v < c) (hc : c ≤ 40) (he : e ≤ 640) (hκ : κ < 32)
    (hH : pm_H c e a4 a5 a6 a7 a8 M) (H : post (f0, f1, pm_th (pm_lk v (M κ)), pm_vl (pm_lk v (M κ)), a1, a2, a3, a4, a5, a6, a7, a8)) :
    wpX_look post (f0, f1, f2, f3, a1, a2, a3, a4, a5, a6, a7, a8) (nI v) (nI κ) := by
  obtain ⟨ow, hH⟩ := hH
  unfold wpX_look
  refine pm_advance hl hv hc he hκ (hH κ hκ) (fun hst => ?_) (fun L0 w o L2 p hsp hpe how hwc h5 h7 h6 hp0 hp2 => ?_)
  · have e1 : pm_lk v (M κ) = none := congrArg pm_oo (pm_st_la hst none)
    rw [e1] at H
    exact br_t rfl (pm_l27 H)
  · have e1 : pm_lk v (M κ) = o := congrArg pm_oo (hsp.2.1 none)
    rw [e1] at H
    have hpc : (nI p).toNatClampNeg = p := nI_clamp (by omega)
    refine br_f (pm_nn (by omega)) ⟨pk_in p 640 (by omega), ?_⟩
    rw [hpc, h7]
    cases o with
    | none => exact br_t rfl (pm_l27 H)
    | some x =>
      refine br_f pm_one ?_
      unfold wX_look_28
      rw [hpc, h6]
      exact ⟨pm_bo.1, pm_bo.2, br_f pm_one ⟨pk_in p 640 (by omega), nm_e H⟩⟩
theorem pm_nar (o : Option Int32) : vp_nar .boolean (pm_th o) = pm_th o := by
  cases o with
  | none => rfl
  | some x =>
    show vp_nar .boolean 1 = 1
    decide
theorem pm_i0 {post : Int32 → St2 → Prop} {e κ v : Nat} {o : Option Int32} (he : e < 640) (hκ : κ < 32)
    (H : post (nI e) (f0, nI (e + 1), f2, f3, a1, a2, a3, upd a4 κ (nI e), upd a5 e (nI v), upd a6 e (pm_vl o), upd a7 e (pm_th o), upd a8 e (a4 κ))) :
    wpX_insert post (f0, nI e, f2, f3, a1, a2, a3, a4, a5, a6, a7, a8) (nI κ) (-1) (nI v) (pm_th o) (pm_vl o) := by
  unfold wpX_insert
  dsimp only
  rw [nI_clamp (show e < 2 ^ 31 by omega), nI_clamp (show κ < 2 ^ 31 by omega), pm_nar]
  exact nm_r (nI_1 e) ⟨pk_in e 640 he, nm_e ⟨pk_in e 640 he, nm_e ⟨pk_in e 640 he, nm_e (br_t rfl ⟨pk_in κ 32 hκ, pk_in e 640 he, nm_e ⟨pk_in κ 32 hκ, nm_e H⟩⟩)⟩⟩⟩
theorem pm_i1 {post : Int32 → St2 → Prop} {e p v : Nat} {o : Option Int32} {k : Int32} (he : e < 640) (hp : p < e)
    (H : post (nI e) (f0, nI (e + 1), f2, f3, a1, a2, a3, a4, upd a5 e (nI v), upd a6 e (pm_vl o), upd a7 e (pm_th o), upd (upd a8 e (a8 p)) p (nI e))) :
    wpX_insert post (f0, nI e, f2, f3, a1, a2, a3, a4, a5, a6, a7, a8) k (nI p) (nI v) (pm_th o) (pm_vl o) := by
  unfold wpX_insert
  dsimp only
  rw [nI_clamp (show e < 2 ^ 31 by omega), nI_clamp (show p < 2 ^ 31 by omega), pm_nar]
  exact nm_r (nI_1 e) ⟨pk_in e 640 he, nm_e ⟨pk_in e 640 he, nm_e ⟨pk_in e 640 he, nm_e (br_f (pm_nn (by omega)) ⟨pk_in p 640 (by omega), pk_in e 640 he, nm_e ⟨pk_in p 640 (by omega), nm_e H⟩⟩)⟩⟩⟩
/-- the entry ahead of the new one is the next version's own, or there is no next version -/
def pm_own (y af : Int32) (b5 : Nat → Int32) : Prop := (y = -1 ∧ af = -1) ∨ ∃ p : Nat, p < 640 ∧ y = nI p ∧ (b5 p = af ∨ af = -1)
theorem pm_w91 {post : St2 → Prop} {e : Nat} {x1 x2 x3 x4 af x6 x7 z0 : Int32} {P : (Nat → Int32) → (Nat → Int32) → (Nat → Int32) → (Nat → Int32) → (Nat → Int32) → Prop} (he : e < 640)
    (Hi : ∀ post' : Int32 → St2 → Prop, (∀ b4 b5 b6 b7 b8 : Nat → Int32, P b4 b5 b6 b7 b8 → pm_own (b8 e) af b5 → post' (nI e) (f0, nI (e + 1), f2, f3, a1, a2, a3, b4, b5, b6, b7, b8)) →
      wpX_insert post' (f0, nI e, f2, f3, a1, a2, a3, a4, a5, a6, a7, a8) x2 x6 x1 x3 x4)
    (H : ∀ b4 b5 b6 b7 b8 : Nat → Int32, P b4 b5 b6 b7 b8 → post (f0, nI (e + 1), f2, f3, a1, a2, a3, b4, b5, b6, b7, b8)) :
    wX_write_91 post x1 x2 x3 x4 af x6 x7 z0 f0 (nI e) f2 f3 a1 a2 a3 a4 a5 a6 a7 a8 := by
  unfold wX_write_91
  refine Hi _ (fun b4 b5 b6 b7 b8 hP hown => ?_)
  have Hp := H b4 b5 b6 b7 b8 hP
  dsimp only
  rw [nI_clamp (show e < 2 ^ 31 by omega)]
  refine ⟨pk_in e 640 he, nm_e ?_⟩
  rcases hown with ⟨h1, h2⟩ | ⟨p, hp, h1, h2⟩
  · exact br_t h1 (br_t h2 Hp)
  · rw [h1]
    refine br_f (pm_nn (by omega)) ⟨pk_in p 640 hp, ?_⟩
    rw [nI_clamp (show p < 2 ^ 31 by omega)]
    refine br_c (fun g => ?_) (fun g => ?_)
    · exact br_c (fun _ => Hp) (fun _ => br_f (by decide) Hp)
    · exact br_t (h2.resolve_left g) Hp
theorem pm_w52 {post : St2 → Prop} {x1 x2 x3 x4 x5 x6 : Int32} (hx : x6 = -1 ∨ vp_in x6 640) (h : ∀ x7 z0 : Int32, wX_write_91 post x1 x2 x3 x4 x5 x6 x7 z0 f0 f1 f2 f3 a1 a2 a3 a4 a5 a6 a7 a8) :
    wX_write_52 post x1 x2 x3 x4 x5 x6 f0 f1 f2 f3 a1 a2 a3 a4 a5 a6 a7 a8 := by
  unfold wX_write_52
  exact br_c (fun _ => br_t rfl (h 0 0)) (fun g => ⟨hx.resolve_left g, br_c (fun _ => br_t rfl (h 0 0)) (fun _ => br_f (by decide) ⟨hx.resolve_left g, h 1 _⟩)⟩)
/-- a key is written at a version that has no entry of it yet -/
theorem pm_wr {c e κ v : Nat} {o : Option Int32} {M : Nat → List (Nat × Option Int32)} (hl : pm_lab c a2) (hv : v < c) (hc : c ≤ 40) (he : e < 640) (hκ : κ < 32)
    (hH : pm_H c e a4 a5 a6 a7 a8 M) (hnd : ((M κ).map Prod.fst).Nodup) (hne : ∀ q, pm_la v (M κ) none ≠ some (v, q)) (haf : a3 v = -1 ∨ ∃ w, pm_nx v (M κ) = some w ∧ a3 v = nI w)
    (post : St2 → Prop) (H : ∀ b4 b5 b6 b7 b8 : Nat → Int32, pm_H c (e + 1) b4 b5 b6 b7 b8 (pm_mu M κ (pm_ins v o (M κ))) → post (f0, nI (e + 1), f2, f3, a1, a2, a3, b4, b5, b6, b7, b8)) :
    wpX_write post (f0, nI e, f2, f3, a1, a2, a3, a4, a5, a6, a7, a8) (nI v) (nI κ) (pm_th o) (pm_vl o) := by
  obtain ⟨ow, hH⟩ := hH
  have OW : ∀ (L2 : List (Nat × Option Int32)) (y : Int32), pm_nx v (M κ) = pm_hd L2 → pm_path c e κ ow a5 a6 a7 a8 y L2 (-1) → pm_own y (a3 v) (upd a5 e (nI v)) := by
    intro L2 y hx hp
    cases L2 with
    | nil =>
      refine Or.inl ⟨hp, ?_⟩
      rcases haf with g | ⟨w, g, _⟩
      · exact g
      · rw [hx] at g
        exact absurd g.symm (Option.some_ne_none w)
    | cons b L =>
      obtain ⟨w, q⟩ := b
      obtain ⟨p, h1, hpe, how, hwc, h5, h7, h6, ht⟩ := hp
      refine Or.inr ⟨p, by omega, h1, ?_⟩
      rcases haf with g | ⟨w', g, g2⟩
      · exact Or.inr g
      · rw [hx] at g
        have e2 : w = w' := Option.some.inj g
        refine Or.inl ?_
        rw [pk_un (Nat.ne_of_lt hpe), h5, g2, e2]
  unfold wpX_write
  dsimp only
  rw [nI_clamp (show v < 2 ^ 31 by omega)]
  refine ⟨pk_in v 40 (by omega), nm_e ?_⟩
  refine pm_advance hl hv hc (Nat.le_of_lt he) hκ (hH κ hκ) (fun hst => ?_) (fun L0 w q L2 p hsp hpe how hwc h5 h7 h6 hp0 hp2 => ?_)
  · refine br_t rfl (pm_w52 (Or.inl rfl) (fun x7 z0 => pm_w91 (P := fun b4 b5 b6 b7 b8 => pm_H c (e + 1) b4 b5 b6 b7 b8 (pm_mu M κ (pm_ins v o (M κ)))) he (fun post' h' => pm_i0 he hκ (h' _ _ _ _ _ (pm_new0 hv hH hst) ?_)) H))
    rw [pk_us]
    exact OW (M κ) _ (pm_st_nx hst) (hH κ hκ)
  · have hpc : (nI p).toNatClampNeg = p := nI_clamp (by omega)
    refine br_f (pm_nn (by omega)) ⟨pk_in p 640 (by omega), ?_⟩
    rw [hpc, h5]
    have hwv : ¬ nI w = nI v := by
      intro z
      have e3 : w = v := (nI_eq (by omega) (by omega)).mp z
      rw [e3] at hsp
      exact hne q (hsp.2.1 none)
    refine br_f hwv (pm_w52 (Or.inr (pk_in p 640 (by omega))) (fun x7 z0 => pm_w91 (P := fun b4 b5 b6 b7 b8 => pm_H c (e + 1) b4 b5 b6 b7 b8 (pm_mu M κ (pm_ins v o (M κ)))) he (fun post' h' => pm_i1 he hpe (h' _ _ _ _ _ (pm_new1 hv hc hH hnd hsp hpe how hwc h5 h7 h6 hp0 hp2) ?_)) H))
    rw [pk_un (Nat.ne_of_gt hpe), pk_us]
    exact OW L2 _ hsp.2.2.2 hp2
theorem pm_uid {f : Nat → Int32} {p : Nat} {x : Int32} (h : f p = x) : upd f p x = f := by
  funext j
  by_cases e : j = p
  · rw [e, pk_us, h]
  · rw [pk_un e]
/-- a key is written again, at its own version and with what is there -/
theorem pm_ws {c e κ v : Nat} {o : Option Int32} {M : Nat → List (Nat × Option Int32)} (hl : pm_lab c a2) (hv : v < c) (hc : c ≤ 40) (he : e ≤ 640) (hκ : κ < 32)
    (hH : pm_H c e a4 a5 a6 a7 a8 M) (hla : pm_la v (M κ) none = some (v, o))
    (post : St2 → Prop) (H : post (f0, f1, f2, f3, a1, a2, a3, a4, a5, a6, a7, a8)) :
    wpX_write post (f0, f1, f2, f3, a1, a2, a3, a4, a5, a6, a7, a8) (nI v) (nI κ) (pm_th o) (pm_vl o) := by
  obtain ⟨ow, hH⟩ := hH
  unfold wpX_write
  dsimp only
  refine ⟨pk_in v 40 (by omega), nm_e ?_⟩
  refine pm_advance hl hv hc he hκ (hH κ hκ) (fun hst => ?_) (fun L0 w q L2 p hsp hpe how hwc h5 h7 h6 hp0 hp2 => ?_)
  · rw [pm_st_la hst] at hla
    exact absurd hla.symm (Option.some_ne_none _)
  · have hpc : (nI p).toNatClampNeg = p := nI_clamp (by omega)
    have e1 := Option.some.inj ((hsp.2.1 none).symm.trans hla)
    have e2 : w = v := congrArg Prod.fst e1
    have e3 : q = o := congrArg Prod.snd e1
    subst e2 e3
    refine br_f (pm_nn (by omega)) ⟨pk_in p 640 (by omega), ?_⟩
    rw [hpc]
    refine br_t h5 ⟨pk_in p 640 (by omega), nm_r (by rw [pm_nar]; exact pm_uid h7) ⟨pk_in p 640 (by omega), nm_r (pm_uid h6) H⟩⟩
end
end
section
section
variable {f0 f1 f2 f3 : Int32} {a1 a3 a4 a5 a6 a7 a8 : Nat → Int32} {a2 : Nat → Int64}
theorem pm_ver1 {post : Int32 → Prop} {c v : Nat} (hv : v < c) (hc : c ≤ 40) (H : post 1) : wpX_isVersion post (nI c, f1, f2, f3, a1, a2, a3, a4, a5, a6, a7, a8) (nI v) := by
  unfold wpX_isVersion
  exact br_f (nI_pos (by omega)) (br_f (nI_ge hv (by omega)) H)
theorem pm_ver0 {post : Int32 → Prop} {c v : Nat} (hv : c ≤ v) (hc : v ≤ 40) (H : post 0) : wpX_isVersion post (nI c, f1, f2, f3, a1, a2, a3, a4, a5, a6, a7, a8) (nI v) := by
  unfold wpX_isVersion
  exact br_f (nI_pos (by omega)) (br_t (nI_le hv (by omega)) H)
theorem pm_key {post : Int32 → Prop} {κ : Nat} (hκ : κ < 32) (H : post 1) : wpX_isKey post () (nI κ) := by
  unfold wpX_isKey
  exact br_f (nI_pos (by omega)) (br_f (nI_ge (b := 32) hκ (by decide)) H)
/-- the constructor -/
theorem pm_init102 {post : St2 → Prop} {mc ms kc ks : Nat} : ∀ (m j : Nat) (b4 : Nat → Int32), j + m = 32 → (∀ i, i < j → b4 i = -1) →
    (∀ b4 : Nat → Int32, (∀ i, i < 32 → b4 i = -1) → post (f0, f1, f2, f3, a1, a2, a3, b4, a5, a6, a7, a8)) →
    wX_init_102 post mc ms kc ks f0 f1 f2 f3 (m + 1) (nI j) a1 a2 a3 b4 a5 a6 a7 a8 := by
  intro m
  induction m with
  | zero =>
    intro j b4 hj hb H
    exact br_t (nI_le (a := 32) (by omega) (by omega)) (H b4 (fun i hi => hb i (by omega)))
  | succ m ih =>
    intro j b4 hj hb H
    refine br_f (nI_ge (b := 32) (by omega) (by decide)) ⟨pk_in j 32 (by omega), nm_e (nm_r (nI_1 j) (ih (j + 1) _ (by omega) (fun i hi => ?_) H))⟩
    rw [nI_clamp (show j < 2 ^ 31 by omega)]
    by_cases e : i = j
    · rw [e, pk_us]
    · rw [pk_un e]
      exact hb i (by omega)
def pm_P1 : Nat → Int32 := upd (fun _ => 0) 0 (-1)
def pm_P2 : Nat → Int32 := upd pm_P1 1 (nI 0)
def pm_P3 : Nat → Int32 := upd pm_P2 2 (nI 1)
def pm_P4 : Nat → Int32 := upd pm_P3 3 (nI 1)
def pm_P5 : Nat → Int32 := upd pm_P4 4 (nI 2)
def pm_L1 : Nat → Int64 := vp_updL (fun _ => 0) 0 1152921504606846976
def pm_L2 : Nat → Int64 := vp_updL pm_L1 1 1729382256910270464
def pm_L3 : Nat → Int64 := vp_updL pm_L2 2 2017612633061982208
def pm_L4 : Nat → Int64 := vp_updL pm_L3 3 1873497444986126336
def pm_L5 : Nat → Int64 := vp_updL pm_L4 4 2161727821137838080
def pm_F1 : Nat → Int32 := upd (fun _ => 0) 0 (-1)
def pm_F2 : Nat → Int32 := upd (upd pm_F1 1 (pm_F1 0)) 0 (nI 1)
def pm_F3 : Nat → Int32 := upd (upd pm_F2 2 (pm_F2 1)) 1 (nI 2)
def pm_F4 : Nat → Int32 := upd (upd pm_F3 3 (pm_F3 1)) 1 (nI 3)
def pm_F5 : Nat → Int32 := upd (upd pm_F4 4 (pm_F4 2)) 2 (nI 4)
theorem pm_lab2 : pm_lab 2 pm_L2 := by
  unfold pm_lab
  decide +kernel
theorem pm_lab3 : pm_lab 3 pm_L3 := by
  unfold pm_lab
  decide +kernel
theorem pm_lab4 : pm_lab 4 pm_L4 := by
  unfold pm_lab
  decide +kernel
theorem pm_lab5 : pm_lab 5 pm_L5 := by
  unfold pm_lab
  decide +kernel
theorem pm_init {post : St2 → Prop} {mc ms : Nat} (hmc : 8 ≤ mc) (hms : 2712 ≤ ms)
    (H : ∀ b4 : Nat → Int32, (∀ i, i < 32 → b4 i = -1) → post (nI 1, f1, f2, f3, pm_P1, pm_L1, pm_F1, b4, fun _ => 0, fun _ => 0, fun _ => 0, fun _ => 0)) :
    wpX_init post mc ms (f0, f1, f2, f3) := by
  unfold wpX_init
  dsimp only
  exact ⟨by omega, by omega, by omega, by omega, by omega, by omega, by omega, by omega, by omega, by omega, by omega, by omega, by omega, by omega, by omega, by omega,
    nm_e (nm_e (nm_e ⟨32 + 1, pm_init102 32 0 _ rfl (fun i hi => absurd hi (Nat.not_lt_zero i)) H⟩))⟩
/-- a new version -/
theorem pm_open {c v : Nat} (up x : Int64) (hc : c < 40) (hv : v < c) (hup : (a3 v = -1 ∧ up = 2305843009213693952) ∨ ∃ w, w < 40 ∧ a3 v = nI w ∧ up = a2 w)
    (hg : 2 ≤ up - a2 v) (hx : a2 v + (up - a2 v) / 2 = x) (post : Int32 → St2 → Prop)
    (H : post (nI c) (nI (c + 1), f1, f2, f3, upd a1 c (nI v), vp_updL a2 c x, upd (upd a3 c (a3 v)) v (nI c), a4, a5, a6, a7, a8)) :
    wpX_open post (nI c, f1, f2, f3, a1, a2, a3, a4, a5, a6, a7, a8) (nI v) := by
  have hcc : (nI c).toNatClampNeg = c := nI_clamp (by omega)
  have hvv : (nI v).toNatClampNeg = v := nI_clamp (by omega)
  have h3 : upd (upd a3 c (a3 v)) v (nI c) c = a3 v := by
    rw [pk_un (Nat.ne_of_gt hv), pk_us]
  have fin : wX_open_68 post (nI v) (nI c) up (nI (c + 1)) f1 f2 f3 (upd a1 c (nI v)) a2 (upd (upd a3 c (a3 v)) v (nI c)) a4 a5 a6 a7 a8 := by
    unfold wX_open_68
    rw [hvv, hcc]
    exact ⟨pk_in v 40 (by omega), nm_e (br_t hg ⟨pk_in v 40 (by omega), by decide, pk_in c 40 hc, nm_r (by rw [hx]) H⟩)⟩
  unfold wpX_open
  dsimp only
  rw [hcc, hvv]
  refine ⟨pk_in c 40 hc, nm_e ⟨pk_in v 40 (by omega), pk_in c 40 hc, nm_e ⟨pk_in v 40 (by omega), nm_e (nm_r (nI_1 c) ⟨pk_in c 40 hc, ?_⟩)⟩⟩⟩
  rw [h3]
  rcases hup with ⟨h, h'⟩ | ⟨w, hw, h, h'⟩
  · rw [h'] at fin
    exact br_t h fin
  · rw [h'] at fin
    rw [h] at fin ⊢
    rw [nI_clamp (show w < 2 ^ 31 by omega)]
    exact br_f (pm_nn (by omega)) ⟨pk_in c 40 hc, pk_in w 40 hw, fin⟩
theorem pm_o1 (post : Int32 → St2 → Prop) (H : post (nI 1) (nI 2, f1, f2, f3, pm_P2, pm_L2, pm_F2, a4, a5, a6, a7, a8)) : wpX_open post (nI 1, f1, f2, f3, pm_P1, pm_L1, pm_F1, a4, a5, a6, a7, a8) (nI 0) :=
  pm_open (c := 1) (v := 0) 2305843009213693952 1729382256910270464 (by decide) (by decide) (Or.inl ⟨by decide +kernel, rfl⟩) (by decide +kernel) (by decide +kernel) post H
theorem pm_o2 (post : Int32 → St2 → Prop) (H : post (nI 2) (nI 3, f1, f2, f3, pm_P3, pm_L3, pm_F3, a4, a5, a6, a7, a8)) : wpX_open post (nI 2, f1, f2, f3, pm_P2, pm_L2, pm_F2, a4, a5, a6, a7, a8) (nI 1) :=
  pm_open (c := 2) (v := 1) 2305843009213693952 2017612633061982208 (by decide) (by decide) (Or.inl ⟨by decide +kernel, rfl⟩) (by decide +kernel) (by decide +kernel) post H
theorem pm_o3 (post : Int32 → St2 → Prop) (H : post (nI 3) (nI 4, f1, f2, f3, pm_P4, pm_L4, pm_F4, a4, a5, a6, a7, a8)) : wpX_open post (nI 3, f1, f2, f3, pm_P3, pm_L3, pm_F3, a4, a5, a6, a7, a8) (nI 1) :=
  pm_open (c := 3) (v := 1) 2017612633061982208 1873497444986126336 (by decide) (by decide) (Or.inr ⟨2, by decide, by decide +kernel, by decide +kernel⟩) (by decide +kernel) (by decide +kernel) post H
theorem pm_o4 (post : Int32 → St2 → Prop) (H : post (nI 4) (nI 5, f1, f2, f3, pm_P5, pm_L5, pm_F5, a4, a5, a6, a7, a8)) : wpX_open post (nI 4, f1, f2, f3, pm_P4, pm_L4, pm_F4, a4, a5, a6, a7, a8) (nI 2) :=
  pm_open (c := 4) (v := 2) 2305843009213693952 2161727821137838080 (by decide) (by decide) (Or.inl ⟨by decide +kernel, rfl⟩) (by decide +kernel) (by decide +kernel) post H
theorem pm_n40 {c : Nat} (h : c < 40) : ¬ nI c = 40 := fun z => absurd ((nI_eq (a := c) (b := 40) (by omega) (by decide)).mp z) (by omega)
theorem pm_put {post : Int32 → St2 → Prop} {c v κ e : Nat} {x : Int32} {b1 b3 : Nat → Int32} {b2 : Nat → Int64} {P : (Nat → Int32) → (Nat → Int32) → (Nat → Int32) → (Nat → Int32) → (Nat → Int32) → Prop}
    (hv : v < c) (hc : c < 40) (hκ : κ < 32)
    (ho : ∀ post' : Int32 → St2 → Prop, post' (nI c) (nI (c + 1), nI e, f2, f3, b1, b2, b3, a4, a5, a6, a7, a8) → wpX_open post' (nI c, nI e, f2, f3, a1, a2, a3, a4, a5, a6, a7, a8) (nI v))
    (hw : ∀ post' : St2 → Prop, (∀ b4 b5 b6 b7 b8 : Nat → Int32, P b4 b5 b6 b7 b8 → post' (nI (c + 1), nI (e + 1), f2, f3, b1, b2, b3, b4, b5, b6, b7, b8)) →
      wpX_write post' (nI (c + 1), nI e, f2, f3, b1, b2, b3, a4, a5, a6, a7, a8) (nI c) (nI κ) 1 x)
    (H : ∀ b4 b5 b6 b7 b8 : Nat → Int32, P b4 b5 b6 b7 b8 → post (nI c) (nI (c + 1), nI (e + 1), f2, f3, b1, b2, b3, b4, b5, b6, b7, b8)) :
    wpX_put post (nI c, nI e, f2, f3, a1, a2, a3, a4, a5, a6, a7, a8) (nI v) (nI κ) x := by
  unfold wpX_put
  dsimp only
  refine pm_ver1 hv (by omega) (br_f (by decide) (pm_key hκ (br_f (by decide) (br_f (pm_n40 hc) (ho _ ?_)))))
  exact hw _ (fun b4 b5 b6 b7 b8 hP => H b4 b5 b6 b7 b8 hP)
theorem pm_exc {post : Int32 → St2 → Prop} {c v k l e e1 e2 : Nat} {b1 b3 : Nat → Int32} {b2 : Nat → Int64} {M M1 M2 : Nat → List (Nat × Option Int32)} (hv : v < c) (hc : c < 40) (hk : k < 32) (hl : l < 32) (he : e ≤ 640) (hL : pm_lab (c + 1) b2)
    (ho : ∀ post' : Int32 → St2 → Prop, post' (nI c) (nI (c + 1), nI e, f2, f3, b1, b2, b3, a4, a5, a6, a7, a8) → wpX_open post' (nI c, nI e, f2, f3, a1, a2, a3, a4, a5, a6, a7, a8) (nI v))
    (hH : pm_H (c + 1) e a4 a5 a6 a7 a8 M)
    (hw : ∀ (g2 g3 : Int32) (post' : St2 → Prop), (∀ b4 b5 b6 b7 b8 : Nat → Int32, pm_H (c + 1) e1 b4 b5 b6 b7 b8 M1 → post' (nI (c + 1), nI e1, g2, g3, b1, b2, b3, b4, b5, b6, b7, b8)) →
      wpX_write post' (nI (c + 1), nI e, g2, g3, b1, b2, b3, a4, a5, a6, a7, a8) (nI c) (nI k) (pm_th (pm_lk v (M l))) (pm_vl (pm_lk v (M l))))
    (hw2 : ∀ (g2 g3 : Int32) (c4 c5 c6 c7 c8 : Nat → Int32), pm_H (c + 1) e1 c4 c5 c6 c7 c8 M1 → ∀ (post' : St2 → Prop), (∀ b4 b5 b6 b7 b8 : Nat → Int32, pm_H (c + 1) e2 b4 b5 b6 b7 b8 M2 → post' (nI (c + 1), nI e2, g2, g3, b1, b2, b3, b4, b5, b6, b7, b8)) →
      wpX_write post' (nI (c + 1), nI e1, g2, g3, b1, b2, b3, c4, c5, c6, c7, c8) (nI c) (nI l) (pm_th (pm_lk v (M k))) (pm_vl (pm_lk v (M k))))
    (H : ∀ (g2 g3 : Int32) (b4 b5 b6 b7 b8 : Nat → Int32), pm_H (c + 1) e2 b4 b5 b6 b7 b8 M2 → post (nI c) (nI (c + 1), nI e2, g2, g3, b1, b2, b3, b4, b5, b6, b7, b8)) :
    wpX_exchange post (nI c, nI e, f2, f3, a1, a2, a3, a4, a5, a6, a7, a8) (nI v) (nI k) (nI l) := by
  unfold wpX_exchange
  dsimp only
  refine pm_ver1 hv (by omega) (br_f (by decide) (pm_key hk (br_f (by decide) (pm_key hl (br_f (by decide) (br_f (pm_n40 hc) (ho _ ?_)))))))
  refine pm_look hL (by omega) (by omega) he hk hH ?_
  refine pm_look hL (by omega) (by omega) he hl hH ?_
  refine hw _ _ _ (fun c4 c5 c6 c7 c8 hM1 => ?_)
  exact hw2 _ _ c4 c5 c6 c7 c8 hM1 _ (fun b4 b5 b6 b7 b8 hM2 => H _ _ b4 b5 b6 b7 b8 hM2)
theorem pm_get {post : Int32 → St2 → Prop} {c e κ v : Nat} {M : Nat → List (Nat × Option Int32)} (hl : pm_lab c a2) (hv : v < c) (hc : c ≤ 40) (he : e ≤ 640) (hκ : κ < 32)
    (hH : pm_H c e a4 a5 a6 a7 a8 M) (H : ∀ g2 g3 : Int32, post (pm_vl (pm_lk v (M κ))) (nI c, nI e, g2, g3, a1, a2, a3, a4, a5, a6, a7, a8)) :
    wpX_get post (nI c, nI e, f2, f3, a1, a2, a3, a4, a5, a6, a7, a8) (nI v) (nI κ) := by
  unfold wpX_get
  dsimp only
  refine pm_ver1 hv hc (br_f (by decide) (pm_key hκ (br_f (by decide) (pm_look hl hv hc he hκ hH ?_))))
  revert H
  cases pm_lk v (M κ) with
  | none => exact fun H => br_t rfl (H _ _)
  | some x => exact fun H => br_f pm_one (H _ _)
theorem pm_get0 {post : Int32 → St2 → Prop} {c v : Nat} {x : Int32} (hv : c ≤ v) (hc : v ≤ 40) (H : post 0 (nI c, f1, f2, f3, a1, a2, a3, a4, a5, a6, a7, a8)) :
    wpX_get post (nI c, f1, f2, f3, a1, a2, a3, a4, a5, a6, a7, a8) (nI v) x := by
  unfold wpX_get
  dsimp only
  exact pm_ver0 hv hc (br_t rfl H)
theorem pm_has {post : Int32 → St2 → Prop} {c e κ v : Nat} {M : Nat → List (Nat × Option Int32)} (hl : pm_lab c a2) (hv : v < c) (hc : c ≤ 40) (he : e ≤ 640) (hκ : κ < 32)
    (hH : pm_H c e a4 a5 a6 a7 a8 M) (H : ∀ g2 g3 : Int32, post (pm_th (pm_lk v (M κ))) (nI c, nI e, g2, g3, a1, a2, a3, a4, a5, a6, a7, a8)) :
    wpX_has post (nI c, nI e, f2, f3, a1, a2, a3, a4, a5, a6, a7, a8) (nI v) (nI κ) := by
  unfold wpX_has
  dsimp only
  refine pm_ver1 hv hc (br_f (by decide) (pm_key hκ (br_f (by decide) (pm_look hl hv hc he hκ hH ?_))))
  revert H
  cases pm_lk v (M κ) with
  | none => exact fun H => br_t rfl (H _ _)
  | some x => exact fun H => br_f pm_one (H _ _)
/-- how many keys a version holds, by a running sum -/
theorem pm_size14 {post : Int32 → St2 → Prop} {c e v : Nat} {M : Nat → List (Nat × Option Int32)} {s : Nat → Nat} (hl : pm_lab c a2) (hv : v < c) (hc : c ≤ 40) (he : e ≤ 640)
    (hH : pm_H c e a4 a5 a6 a7 a8 M) (hs : ∀ j, j < 32 → (pm_lk v (M j) = none → s (j + 1) = s j) ∧ (pm_lk v (M j) ≠ none → s (j + 1) = s j + 1))
    (H : ∀ g2 g3 : Int32, post (nI (s 32)) (nI c, nI e, g2, g3, a1, a2, a3, a4, a5, a6, a7, a8)) :
    ∀ (m j : Nat) (g2 g3 : Int32), j + m = 32 → wX_size_14 post (nI v) (m + 1) (nI (s j)) (nI j) (nI c) (nI e) g2 g3 a1 a2 a3 a4 a5 a6 a7 a8 := by
  intro m
  induction m with
  | zero =>
    intro j g2 g3 hj
    have e1 : j = 32 := by omega
    rw [e1]
    exact br_t (nI_le (a := 32) (b := 32) (by omega) (by omega)) (H g2 g3)
  | succ m ih =>
    intro j g2 g3 hj
    refine br_f (nI_ge (b := 32) (by omega) (by decide)) (pm_look hl hv hc he (show j < 32 by omega) hH ?_)
    have hj' := hs j (by omega)
    revert hj'
    cases pm_lk v (M j) with
    | none =>
      intro hj'
      refine br_t rfl (nm_r (e' := nI (s (j + 1))) ?_ (nm_r (nI_1 j) (ih (j + 1) _ _ (by omega))))
      rw [hj'.1 rfl]
      exact Int32.add_zero _
    | some x =>
      intro hj'
      refine br_f pm_one (nm_r (e' := nI (s (j + 1))) ?_ (nm_r (nI_1 j) (ih (j + 1) _ _ (by omega))))
      rw [hj'.2 (Option.some_ne_none x)]
      exact nI_1 _
theorem pm_size {post : Int32 → St2 → Prop} {c e v : Nat} {M : Nat → List (Nat × Option Int32)} (s : Nat → Nat) (hl : pm_lab c a2) (hv : v < c) (hc : c ≤ 40) (he : e ≤ 640)
    (hH : pm_H c e a4 a5 a6 a7 a8 M) (h0 : s 0 = 0) (hs : ∀ j, j < 32 → (pm_lk v (M j) = none → s (j + 1) = s j) ∧ (pm_lk v (M j) ≠ none → s (j + 1) = s j + 1))
    (H : ∀ g2 g3 : Int32, post (nI (s 32)) (nI c, nI e, g2, g3, a1, a2, a3, a4, a5, a6, a7, a8)) :
    wpX_size post (nI c, nI e, f2, f3, a1, a2, a3, a4, a5, a6, a7, a8) (nI v) := by
  have t := pm_size14 (a1 := a1) (a3 := a3) hl hv hc he hH hs H 32 0 f2 f3 rfl
  rw [h0] at t
  unfold wpX_size
  dsimp only
  exact pm_ver1 hv hc (br_f (by decide) ⟨32 + 1, t⟩)
theorem pm_size0 {post : Int32 → St2 → Prop} {c v : Nat} (hv : c ≤ v) (hc : v ≤ 40) (H : post (-1) (nI c, f1, f2, f3, a1, a2, a3, a4, a5, a6, a7, a8)) :
    wpX_size post (nI c, f1, f2, f3, a1, a2, a3, a4, a5, a6, a7, a8) (nI v) := by
  unfold wpX_size
  dsimp only
  exact pm_ver0 hv hc (br_t rfl H)
theorem pm_meet {post : Int32 → Prop} {c : Nat} (hc : 4 ≤ c) (hc' : c ≤ 40) (h2 : a1 2 = nI 1) (h3 : a1 3 = nI 1) (H : post 1) :
    wpX_meet post (nI c, f1, f2, f3, a1, a2, a3, a4, a5, a6, a7, a8) (nI 2) (nI 3) := by
  have A2 : ∀ post' : Int32 → Prop, post' 0 → wpX_isAncestor post' (nI c, f1, f2, f3, a1, a2, a3, a4, a5, a6, a7, a8) (nI 2) (nI 3) := by
    intro post' hp
    unfold wpX_isAncestor
    exact ⟨0 + 1 + 1, br_f (by decide) (br_f (by decide) ⟨pk_in 3 40 (by decide), nm_r (e' := nI 1) h3 (nm_r (e' := nI 1) (nI_1 0) (br_f (by decide) (br_t (by decide) (br_f (by decide) hp))))⟩)⟩
  have A1 : ∀ post' : Int32 → Prop, post' 1 → wpX_isAncestor post' (nI c, f1, f2, f3, a1, a2, a3, a4, a5, a6, a7, a8) (nI 1) (nI 3) := by
    intro post' hp
    unfold wpX_isAncestor
    exact ⟨0 + 1 + 1, br_f (by decide) (br_f (by decide) ⟨pk_in 3 40 (by decide), nm_r (e' := nI 1) h3 (nm_r (e' := nI 1) (nI_1 0) (br_f (by decide) (br_t (by decide) (br_t rfl hp))))⟩)⟩
  unfold wpX_meet
  dsimp only
  refine pm_ver1 (by omega) hc' (br_f (by decide) (pm_ver1 (by omega) hc' (br_f (by decide) ⟨0 + 1 + 1, ?_⟩)))
  refine br_f (by decide) (A2 _ (br_t rfl ⟨pk_in 2 40 (by decide), nm_r (e' := nI 1) h2 (nm_r (e' := nI 1) (nI_1 0) ?_)⟩))
  exact br_f (by decide) (A1 _ (br_f (by decide) H))
theorem pm_tv {o q : Option Int32} (h1 : pm_th o = pm_th q) (h2 : pm_vl o = pm_vl q) : o = q := by
  cases o with
  | none =>
    cases q with
    | none => rfl
    | some y => exact absurd h1.symm pm_one
  | some x =>
    cases q with
    | none => exact absurd h1 pm_one
    | some y => exact congrArg some h2
theorem pm_differ {post : Int32 → St2 → Prop} {c e κ v w : Nat} {M : Nat → List (Nat × Option Int32)} (hl : pm_lab c a2) (hv : v < c) (hw : w < c) (hc : c ≤ 40) (he : e ≤ 640) (hκ : κ < 32)
    (hH : pm_H c e a4 a5 a6 a7 a8 M)
    (H0 : pm_lk v (M κ) = pm_lk w (M κ) → ∀ g2 g3 : Int32, post 0 (nI c, nI e, g2, g3, a1, a2, a3, a4, a5, a6, a7, a8))
    (H1 : pm_lk v (M κ) ≠ pm_lk w (M κ) → ∀ g2 g3 : Int32, post 1 (nI c, nI e, g2, g3, a1, a2, a3, a4, a5, a6, a7, a8)) :
    wpX_differ post (nI c, nI e, f2, f3, a1, a2, a3, a4, a5, a6, a7, a8) (nI v) (nI w) (nI κ) := by
  unfold wpX_differ
  dsimp only
  refine pm_look hl hv hc he hκ hH ?_
  refine pm_look hl hw hc he hκ hH ?_
  exact br_c (fun g => br_c (fun g' => H0 (pm_tv g g') _ _) (fun g' => H1 (fun z => g' (congrArg pm_vl z)) _ _)) (fun g => H1 (fun z => g (congrArg pm_th z)) _ _)
theorem pm_changes13 {post : Int32 → St2 → Prop} {c e κ : Nat} {M : Nat → List (Nat × Option Int32)} {s pa : Nat → Nat} (hl : pm_lab c a2) (hc : c ≤ 40) (he : e ≤ 640) (hκ : κ < 32)
    (hH : pm_H c e a4 a5 a6 a7 a8 M) (hp : ∀ j, 1 ≤ j → j < c → a1 j = nI (pa j) ∧ pa j < c)
    (hs : ∀ j, 1 ≤ j → j < c → (pm_lk j (M κ) = pm_lk (pa j) (M κ) → s (j + 1) = s j) ∧ (pm_lk j (M κ) ≠ pm_lk (pa j) (M κ) → s (j + 1) = s j + 1))
    (H : ∀ g2 g3 : Int32, post (nI (s c)) (nI c, nI e, g2, g3, a1, a2, a3, a4, a5, a6, a7, a8)) :
    ∀ (m j : Nat) (g2 g3 : Int32), 1 ≤ j → j + m = c → wX_changes_13 post (nI κ) (m + 1) (nI (s j)) (nI j) (nI c) (nI e) g2 g3 a1 a2 a3 a4 a5 a6 a7 a8 := by
  intro m
  induction m with
  | zero =>
    intro j g2 g3 hj1 hj
    have e1 : j = c := by omega
    rw [e1]
    exact br_t (nI_le (Nat.le_refl c) (by omega)) (H g2 g3)
  | succ m ih =>
    intro j g2 g3 hj1 hj
    have hjc : j < c := by omega
    refine br_f (nI_ge hjc (by omega)) ⟨pk_in j 40 (by omega), ?_⟩
    rw [nI_clamp (show j < 2 ^ 31 by omega), (hp j hj1 hjc).1]
    have hj' := hs j hj1 hjc
    refine pm_differ hl hjc (hp j hj1 hjc).2 hc he hκ hH (fun g g2 g3 => ?_) (fun g g2 g3 => ?_)
    · refine br_t rfl (nm_r (e' := nI (s (j + 1))) ?_ (nm_r (nI_1 j) (ih (j + 1) _ _ (by omega) (by omega))))
      rw [hj'.1 g]
      exact Int32.add_zero _
    · refine br_f pm_one (nm_r (e' := nI (s (j + 1))) ?_ (nm_r (nI_1 j) (ih (j + 1) _ _ (by omega) (by omega))))
      rw [hj'.2 g]
      exact nI_1 _
theorem pm_changes {post : Int32 → St2 → Prop} {c e κ : Nat} {M : Nat → List (Nat × Option Int32)} (s pa : Nat → Nat) (hl : pm_lab c a2) (hc1 : 1 ≤ c) (hc : c ≤ 40) (he : e ≤ 640) (hκ : κ < 32)
    (hH : pm_H c e a4 a5 a6 a7 a8 M) (hp : ∀ j, 1 ≤ j → j < c → a1 j = nI (pa j) ∧ pa j < c) (h0 : s 1 = 0)
    (hs : ∀ j, 1 ≤ j → j < c → (pm_lk j (M κ) = pm_lk (pa j) (M κ) → s (j + 1) = s j) ∧ (pm_lk j (M κ) ≠ pm_lk (pa j) (M κ) → s (j + 1) = s j + 1))
    (H : ∀ g2 g3 : Int32, post (nI (s c)) (nI c, nI e, g2, g3, a1, a2, a3, a4, a5, a6, a7, a8)) :
    wpX_changes post (nI c, nI e, f2, f3, a1, a2, a3, a4, a5, a6, a7, a8) (nI κ) := by
  have t := pm_changes13 (a3 := a3) hl hc he hκ hH hp hs H (c - 1) 1 f2 f3 (Nat.le_refl 1) (by omega)
  rw [h0] at t
  unfold wpX_changes
  dsimp only
  exact pm_key hκ (br_f (by decide) ⟨c - 1 + 1, t⟩)
end
end
section
def pm_good (n : Nat) : Prop := 1 ≤ n % 16 ∧ n % 16 ≤ 8 ∧ n ≤ 511 ∧ n / 16 + n % 16 ≤ 32
theorem pm_and15 {n : Nat} (h : n < 2 ^ 31) : nI n &&& 15 = nI (n % 16) := pk_andN (by omega) 4 (by decide)
theorem pm_shr4 {n : Nat} (h : n < 2 ^ 31) : nI n >>> ((4 : Int32) &&& 31) = nI (n / 16) := pk_shrN h _ 4 (by decide)
theorem pm_plan1 {post : Int32 → Prop} {n : Nat} (hn : n < 2 ^ 31) (h : pm_good n) (H : post 1) : wpX_isPlan post () (nI n) := by
  obtain ⟨h1, h2, h3, h4⟩ := h
  unfold wpX_isPlan
  rw [pm_shr4 hn, pm_and15 hn]
  refine nm_e ?_
  rw [nI_add]
  exact br_f (nI_pos hn) (br_f (nI_nlt (b := 1) h1 (by omega)) (br_f (nI_nlt (a := 8) h2 (by decide)) (br_f (nI_nlt (a := 511) h3 (by decide)) (br_f (nI_nlt (a := 32) h4 (by decide)) H))))
theorem pm_plan0 {post : Int32 → Prop} {x : Int32} (h : x < 0 ∨ ∃ n : Nat, n < 2 ^ 31 ∧ x = nI n ∧ ¬ pm_good n) (H : post 0) : wpX_isPlan post () x := by
  unfold wpX_isPlan
  rcases h with h | ⟨n, hn, hx, hg⟩
  · exact nm_e (br_t h H)
  · subst hx
    rw [pm_shr4 hn, pm_and15 hn]
    refine nm_e ?_
    rw [nI_add]
    exact br_f (nI_pos hn) (pk_lt (n % 16) 1 (fun _ => H) (fun g1 => pk_lt 8 (n % 16) (fun _ => H) (fun g2 => pk_lt 511 n (fun _ => H) (fun g3 => pk_lt 32 (n / 16 + n % 16) (fun _ => H) (fun g4 => absurd ⟨g1, g2, g3, g4⟩ hg)))))
theorem pm_la_in {v w : Nat} {q : Option Int32} : ∀ (L : List (Nat × Option Int32)) (d : Option (Nat × Option Int32)), pm_la v L d = some (w, q) → d = some (w, q) ∨ w ∈ L.map Prod.fst := by
  intro L
  induction L with
  | nil => intro d h; exact Or.inl h
  | cons b L ih =>
    obtain ⟨u, o⟩ := b
    intro d h
    by_cases hr : pm_rk v < pm_rk u
    · exact Or.inl ((if_pos hr).symm.trans h)
    · rcases ih _ ((if_neg hr).symm.trans h) with g | g
      · have e1 : u = w := congrArg Prod.fst (Option.some.inj g)
        rw [e1]
        exact Or.inr List.mem_cons_self
      · exact Or.inr (List.mem_cons_of_mem _ g)
/-- the keys from fs on, j of them, are copied from version 3 to version 4 -/
def pm_gr (M : Nat → List (Nat × Option Int32)) (fs j : Nat) : Nat → List (Nat × Option Int32) := fun κ => if fs ≤ κ ∧ κ < fs + j then pm_ins 4 (pm_lk 3 (M κ)) (M κ) else M κ
theorem pm_gr_t {M : Nat → List (Nat × Option Int32)} {fs j κ : Nat} (h : fs ≤ κ ∧ κ < fs + j) : pm_gr M fs j κ = pm_ins 4 (pm_lk 3 (M κ)) (M κ) := if_pos h
theorem pm_gr_f {M : Nat → List (Nat × Option Int32)} {fs j κ : Nat} (h : ¬ (fs ≤ κ ∧ κ < fs + j)) : pm_gr M fs j κ = M κ := if_neg h
section
variable {f0 f1 f2 f3 : Int32} {a1 a3 a4 a5 a6 a7 a8 : Nat → Int32} {a2 : Nat → Int64}
theorem pm_graft55 {post : Int32 → St2 → Prop} {n E : Nat} {M : Nat → List (Nat × Option Int32)} (hl : pm_lab 5 a2) (hn : n < 2 ^ 31) (hg : pm_good n) (h3 : a3 4 = -1) (hE : E ≤ 600)
    (hM : ∀ κ, ((M κ).map Prod.fst).Nodup ∧ 4 ∉ (M κ).map Prod.fst)
    (H : ∀ (e : Nat) (g2 g3 : Int32) (b4 b5 b6 b7 b8 : Nat → Int32), e ≤ E → pm_H 5 e b4 b5 b6 b7 b8 (pm_gr M (n / 16) (n % 16)) → post (nI 4) (nI 5, nI e, g2, g3, a1, a2, a3, b4, b5, b6, b7, b8)) :
    ∀ (m j e : Nat) (g2 g3 : Int32) (b4 b5 b6 b7 b8 : Nat → Int32), j + m = n % 16 → e + m ≤ E → pm_H 5 e b4 b5 b6 b7 b8 (pm_gr M (n / 16) j) →
      wX_graft_55 post (nI 3) (nI n) (nI 4) (nI (n / 16)) (m + 1) (nI j) (nI 5) (nI e) g2 g3 a1 a2 a3 b4 b5 b6 b7 b8 := by
  obtain ⟨q1, q2, q3, q4⟩ := hg
  intro m
  induction m with
  | zero =>
    intro j e g2 g3 b4 b5 b6 b7 b8 hj he hH
    have e1 : j = n % 16 := by omega
    subst e1
    refine br_t ?_ (H e g2 g3 b4 b5 b6 b7 b8 (by omega) hH)
    rw [pm_and15 hn]
    exact nI_le (Nat.le_refl _) (by omega)
  | succ m ih =>
    intro j e g2 g3 b4 b5 b6 b7 b8 hj he hH
    refine br_f ?_ ?_
    · rw [pm_and15 hn]
      exact nI_ge (by omega) (by omega)
    rw [nI_add]
    have hk : n / 16 + j < 32 := by omega
    have eM : pm_gr M (n / 16) j (n / 16 + j) = M (n / 16 + j) := pm_gr_f (by omega)
    refine pm_look hl (by decide) (by decide) (by omega) hk hH ?_
    refine pm_wr hl (by decide) (by decide) (by omega) hk hH ?_ ?_ (Or.inl h3) _ (fun c4 c5 c6 c7 c8 hH' => ?_)
    · rw [eM]
      exact (hM _).1
    · rw [eM]
      intro q z
      rcases pm_la_in _ _ z with z | z
      · exact absurd z.symm (Option.some_ne_none _)
      · exact (hM _).2 z
    · refine nm_r (nI_1 j) (ih (j + 1) (e + 1) _ _ c4 c5 c6 c7 c8 (by omega) (by omega) (pm_H_c hH' (fun i hi => ?_)))
      by_cases hi2 : i = n / 16 + j
      · rw [hi2, pm_mu_s, eM, pm_gr_t (by omega)]
      · rw [pm_mu_n hi2]
        by_cases hi3 : n / 16 ≤ i ∧ i < n / 16 + j
        · rw [pm_gr_t hi3, pm_gr_t (by omega)]
        · rw [pm_gr_f hi3, pm_gr_f (by omega)]
theorem pm_graft1 {post : Int32 → St2 → Prop} {n e : Nat} {M : Nat → List (Nat × Option Int32)} (hn : n < 2 ^ 31) (hg : pm_good n) (he : e ≤ 100)
    (hM : ∀ κ, ((M κ).map Prod.fst).Nodup ∧ 4 ∉ (M κ).map Prod.fst) (hH : pm_H 4 e a4 a5 a6 a7 a8 M)
    (H : ∀ (e : Nat) (g2 g3 : Int32) (b4 b5 b6 b7 b8 : Nat → Int32), e ≤ 600 → pm_H 5 e b4 b5 b6 b7 b8 (pm_gr M (n / 16) (n % 16)) → post (nI 4) (nI 5, nI e, g2, g3, pm_P5, pm_L5, pm_F5, b4, b5, b6, b7, b8)) :
    wpX_graft post (nI 4, nI e, f2, f3, pm_P4, pm_L4, pm_F4, a4, a5, a6, a7, a8) (nI 2) (nI 3) (nI n) := by
  have q2 := hg.2.1
  unfold wpX_graft
  dsimp only
  refine pm_ver1 (by decide) (by decide) (br_f (by decide) (pm_ver1 (by decide) (by decide) (br_f (by decide) (pm_plan1 hn hg (br_f (by decide) (br_f (pm_n40 (by decide)) (pm_o4 _ ?_)))))))
  refine nm_r (pm_shr4 hn) ⟨n % 16 + 1, ?_⟩
  refine pm_graft55 (E := 600) pm_lab5 hn hg (by decide +kernel) (by decide) hM H (n % 16) 0 e _ _ _ _ _ _ _ (by omega) (by omega) (pm_H_c (pm_H_up (by decide) hH) (fun i hi => ?_))
  rw [pm_gr_f (by omega)]
theorem pm_graft0 {post : Int32 → St2 → Prop} {x : Int32} (h : x < 0 ∨ ∃ n : Nat, n < 2 ^ 31 ∧ x = nI n ∧ ¬ pm_good n)
    (H : post (-2) (nI 4, f1, f2, f3, a1, a2, a3, a4, a5, a6, a7, a8)) : wpX_graft post (nI 4, f1, f2, f3, a1, a2, a3, a4, a5, a6, a7, a8) (nI 2) (nI 3) x := by
  unfold wpX_graft
  dsimp only
  exact pm_ver1 (by decide) (by decide) (br_f (by decide) (pm_ver1 (by decide) (by decide) (br_f (by decide) (pm_plan0 h (br_t rfl H)))))
end
end
section
/-- the pictures: after put, exchange, put -/
def pm_M1 (k : Nat) (x : Int32) : Nat → List (Nat × Option Int32) := fun j => if j = k then [(1, some x)] else []
def pm_M2 (k l : Nat) (x : Int32) : Nat → List (Nat × Option Int32) := fun j => if j = k then (if k = l then [(1, some x), (2, some x)] else [(1, some x), (2, none)]) else if j = l then [(2, some x)] else []
def pm_M3 (k l : Nat) (x y : Int32) : Nat → List (Nat × Option Int32) := fun j => if j = k then (if k = l then [(1, some x), (3, some y), (2, some x)] else [(1, some x), (2, none)]) else if j = l then [(3, some y), (2, some x)] else []
theorem pm_M3_s {k : Nat} {x y : Int32} : pm_M3 k k x y k = [(1, some x), (3, some y), (2, some x)] := by
  unfold pm_M3
  rw [if_pos rfl, if_pos rfl]
theorem pm_M3_k {k l : Nat} {x y : Int32} (h : k ≠ l) : pm_M3 k l x y k = [(1, some x), (2, none)] := by
  unfold pm_M3
  rw [if_pos rfl, if_neg h]
theorem pm_M3_l {k l : Nat} {x y : Int32} (h : k ≠ l) : pm_M3 k l x y l = [(3, some y), (2, some x)] := by
  unfold pm_M3
  rw [if_neg (Ne.symm h), if_pos rfl]
theorem pm_M3_o {k l j : Nat} {x y : Int32} (h : j ≠ k) (h' : j ≠ l) : pm_M3 k l x y j = [] := by
  unfold pm_M3
  rw [if_neg h, if_neg h']
theorem pm_M3_ok (k l : Nat) (x y : Int32) (j : Nat) : ((pm_M3 k l x y j).map Prod.fst).Nodup ∧ 4 ∉ (pm_M3 k l x y j).map Prod.fst := by
  unfold pm_M3
  by_cases h1 : j = k
  · rw [if_pos h1]
    by_cases h2 : k = l
    · rw [if_pos h2]
      show [1, 3, 2].Nodup ∧ 4 ∉ [1, 3, 2]
      decide
    · rw [if_neg h2]
      show [1, 2].Nodup ∧ 4 ∉ [1, 2]
      decide
  · rw [if_neg h1]
    by_cases h2 : j = l
    · rw [if_pos h2]
      show [3, 2].Nodup ∧ 4 ∉ [3, 2]
      decide
    · rw [if_neg h2]
      show ([] : List Nat).Nodup ∧ 4 ∉ ([] : List Nat)
      decide
/-- one change of a key: the running sum of the versions that differ from their parents -/
def pm_pa : Nat → Nat
  | 2 => 1
  | 3 => 1
  | 4 => 2
  | _ => 0
def pm_df (L : List (Nat × Option Int32)) (j : Nat) : Nat := if pm_lk j L = pm_lk (pm_pa j) L then 0 else 1
def pm_cs (L : List (Nat × Option Int32)) : Nat → Nat
  | 0 => 0
  | 1 => 0
  | n + 2 => pm_cs L (n + 1) + pm_df L (n + 1)
theorem pm_cs_s (L : List (Nat × Option Int32)) (j : Nat) (hj : 1 ≤ j) : (pm_lk j L = pm_lk (pm_pa j) L → pm_cs L (j + 1) = pm_cs L j) ∧ (pm_lk j L ≠ pm_lk (pm_pa j) L → pm_cs L (j + 1) = pm_cs L j + 1) := by
  obtain ⟨i, rfl⟩ : ∃ i, j = i + 1 := ⟨j - 1, by omega⟩
  have e1 : pm_cs L (i + 1 + 1) = pm_cs L (i + 1) + pm_df L (i + 1) := rfl
  rw [e1]
  unfold pm_df
  constructor
  · intro g
    rw [if_pos g]
    rfl
  · intro g
    rw [if_neg g]
/-- what a change of value counts in the law -/
def pm_d (x8 x y : Int32) : Int32 := if x8 = 0 then 1 else if y = x then 0 else 1
theorem pm_412 {mc ms kc ks : Nat} {z0 z1 z2 : Int32} (h : z2 = z1 + z0) : wL_lawOf_412 (fun r _ => r = 1) mc ms z0 z1 z2 kc ks := br_t h rfl
theorem pm_383 {mc ms kc ks : Nat} {x y x8 x13 z0 z1 z2 : Int32} (h : z2 = z1 + z0 + (if x13 = 0 then 0 else pm_d x8 x y)) : wL_lawOf_383 (fun r _ => r = 1) mc ms x y x8 x13 z0 z1 z2 kc ks := by
  unfold wL_lawOf_383
  refine br_c (fun g => pm_412 ?_) (fun g => br_c (fun g2 => pm_412 ?_) (fun g2 => br_c (fun g3 => pm_412 ?_) (fun g3 => pm_412 ?_)))
  · rw [h, if_pos g]
  · rw [h, if_neg g, pm_d, if_pos g2]
  · rw [h, if_neg g, pm_d, if_neg g2, if_pos g3]
  · rw [h, if_neg g, pm_d, if_neg g2, if_neg g3]
section
variable {f2 f3 : Int32} {a1 a3 a4 a5 a6 a7 a8 : Nat → Int32} {a2 : Nat → Int64} {mc ms kc ks : Nat}
theorem pm_340 {c e k : Nat} {x y x8 x13 z0 z1 : Int32} {M : Nat → List (Nat × Option Int32)} (hz : z1 = z0) (hl : pm_lab c a2) (hc4 : 4 ≤ c) (hc : c ≤ 5) (he : e ≤ 640) (hk : k < 32)
    (hH : pm_H c e a4 a5 a6 a7 a8 M) (hp : ∀ j, 1 ≤ j → j < c → a1 j = nI (pm_pa j) ∧ pm_pa j < c)
    (hr : nI (pm_cs (M k) c) = 1 + pm_d x8 x y + (if x13 = 0 then 0 else pm_d x8 x y)) :
    wL_lawOf_340 (fun r _ => r = 1) mc ms x y (nI k) x8 x13 z0 z1 kc ks (nI c) (nI e) f2 f3 a1 a2 a3 a4 a5 a6 a7 a8 := by
  unfold wL_lawOf_340
  refine br_t hz (pm_meet hc4 (by omega) (hp 2 (by decide) (by omega)).1 (hp 3 (by decide) (by omega)).1 (br_t rfl ?_))
  refine pm_changes (pm_cs (M k)) pm_pa hl (by omega) (by omega) he hk hH hp rfl (fun j hj _ => pm_cs_s (M k) j hj) (fun g2 g3 => ?_)
  refine br_c (fun g => pm_383 ?_) (fun g => br_c (fun g2 => pm_383 ?_) (fun g2 => pm_383 ?_))
  · rw [hr]
    congr 2
    rw [pm_d, if_pos g]
  · rw [hr]
    congr 2
    rw [pm_d, if_neg g, if_pos g2]
  · rw [hr]
    congr 2
    rw [pm_d, if_neg g, if_neg g2]
theorem pm_pa4 : ∀ j, 1 ≤ j → j < 4 → pm_P4 j = nI (pm_pa j) ∧ pm_pa j < 4 := by
  intro j h1 h2
  have : j = 1 ∨ j = 2 ∨ j = 3 := by omega
  rcases this with rfl | rfl | rfl <;> exact ⟨by decide +kernel, by decide⟩
theorem pm_pa5 : ∀ j, 1 ≤ j → j < 5 → pm_P5 j = nI (pm_pa j) ∧ pm_pa j < 5 := by
  intro j h1 h2
  have : j = 1 ∨ j = 2 ∨ j = 3 ∨ j = 4 := by omega
  rcases this with rfl | rfl | rfl | rfl <;> exact ⟨by decide +kernel, by decide⟩
/-- how often the key k changes: three versions -/
theorem pm_c4 {k l : Nat} {x y x8 : Int32} (h8 : x8 = if k = l then 1 else 0) : nI (pm_cs (pm_M3 k l x y k) 4) = 1 + pm_d x8 x y + (if (0 : Int32) = 0 then 0 else pm_d x8 x y) := by
  by_cases hkl : k = l
  · subst hkl
    rw [if_pos rfl] at h8
    subst h8
    rw [pm_M3_s]
    by_cases hxy : y = x
    · subst hxy
      have e1 : pm_cs [(1, some y), (3, some y), (2, some y)] 4 = 1 := by
        have d1 : pm_df [(1, some y), (3, some y), (2, some y)] 1 = 1 := if_neg (fun z => absurd z (Option.some_ne_none y))
        have d2 : pm_df [(1, some y), (3, some y), (2, some y)] 2 = 0 := if_pos rfl
        have d3 : pm_df [(1, some y), (3, some y), (2, some y)] 3 = 0 := if_pos rfl
        show 0 + pm_df _ 1 + pm_df _ 2 + pm_df _ 3 = 1
        rw [d1, d2, d3]
      rw [e1, pm_d, if_neg pm_one, if_pos rfl]
      decide
    · have e1 : pm_cs [(1, some x), (3, some y), (2, some x)] 4 = 2 := by
        have d1 : pm_df [(1, some x), (3, some y), (2, some x)] 1 = 1 := if_neg (fun z => absurd z (Option.some_ne_none x))
        have d2 : pm_df [(1, some x), (3, some y), (2, some x)] 2 = 0 := if_pos rfl
        have d3 : pm_df [(1, some x), (3, some y), (2, some x)] 3 = 1 := if_neg (fun z => hxy (Option.some.inj z))
        show 0 + pm_df _ 1 + pm_df _ 2 + pm_df _ 3 = 2
        rw [d1, d2, d3]
      rw [e1, pm_d, if_neg pm_one, if_neg hxy]
      decide
  · rw [if_neg hkl] at h8
    subst h8
    rw [pm_M3_k hkl]
    have e1 : pm_cs [(1, some x), (2, none)] 4 = 2 := by
      have d1 : pm_df [(1, some x), (2, none)] 1 = 1 := if_neg (fun z => absurd z (Option.some_ne_none x))
      have d2 : pm_df [(1, some x), (2, none)] 2 = 1 := if_neg (fun z => absurd (Eq.symm z) (Option.some_ne_none x))
      have d3 : pm_df [(1, some x), (2, none)] 3 = 0 := if_pos rfl
      show 0 + pm_df _ 1 + pm_df _ 2 + pm_df _ 3 = 2
      rw [d1, d2, d3]
    rw [e1, pm_d, if_pos rfl]
    decide
/-- the law behind a graft that was refused -/
theorem pm_bad {k l e : Nat} {x y p x8 x9 x10 : Int32} (h8 : x8 = if k = l then 1 else 0) (hk : k < 32) (he : e ≤ 640) (hH : pm_H 4 e a4 a5 a6 a7 a8 (pm_M3 k l x y))
    (h : p < 0 ∨ ∃ n : Nat, n < 2 ^ 31 ∧ p = nI n ∧ ¬ pm_good n) :
    wL_lawOf_166 (fun r _ => r = 1) mc ms x y p (nI k) (nI l) x8 x9 x10 0 kc ks (nI 4) (nI e) f2 f3 pm_P4 pm_L4 pm_F4 a4 a5 a6 a7 a8 := by
  have T : ∀ x14 z0 : Int32, wL_lawOf_297 (fun r _ => r = 1) mc ms x y (nI k) (nI l) x8 0 0 x14 z0 kc ks (nI 4) (nI e) f2 f3 pm_P4 pm_L4 pm_F4 a4 a5 a6 a7 a8 := by
    intro x14 z0
    unfold wL_lawOf_297
    refine pm_get0 (v := 4) (by decide) (by decide) (br_t rfl ?_)
    unfold wL_lawOf_318
    refine br_t rfl (pm_size0 (v := 4) (by decide) (by decide) (br_t rfl ?_))
    exact pm_340 rfl pm_lab4 (by decide) (by decide) he hk hH pm_pa4 (pm_c4 h8)
  unfold wL_lawOf_166
  refine pm_graft0 h (br_t rfl ?_)
  unfold wL_lawOf_188
  refine br_t rfl (br_t rfl ?_)
  unfold wL_lawOf_219 wL_lawOf_220
  refine br_t rfl ?_
  unfold wL_lawOf_248 wL_lawOf_249
  refine br_t rfl (br_t rfl ?_)
  unfold wL_lawOf_275 wL_lawOf_276
  exact br_c (fun _ => br_t rfl (T _ _)) (fun _ => T _ _)
end
end
section
theorem pm_cs5 {L : List (Nat × Option Int32)} {n1 n2 n3 n4 : Nat} (d1 : pm_df L 1 = n1) (d2 : pm_df L 2 = n2) (d3 : pm_df L 3 = n3) (d4 : pm_df L 4 = n4) : pm_cs L 5 = n1 + n2 + n3 + n4 := by
  show 0 + pm_df L 1 + pm_df L 2 + pm_df L 3 + pm_df L 4 = n1 + n2 + n3 + n4
  rw [d1, d2, d3, d4]
  omega
theorem pm_cn {L : List (Nat × Option Int32)} (n1 n2 n3 n4 : Nat) {R : Int32} (h : nI (n1 + n2 + n3 + n4) = R) (d1 : pm_df L 1 = n1) (d2 : pm_df L 2 = n2) (d3 : pm_df L 3 = n3) (d4 : pm_df L 4 = n4) : nI (pm_cs L 5) = R := by
  rw [pm_cs5 d1 d2 d3 d4]
  exact h
/-- how often the key k changes: four versions -/
theorem pm_c5 {k l fs cn : Nat} {x y x8 x13 : Int32} (h8 : x8 = if k = l then 1 else 0) (h13 : x13 = if fs ≤ k ∧ k < fs + cn then 1 else 0) :
    nI (pm_cs (pm_gr (pm_M3 k l x y) fs cn k) 5) = 1 + pm_d x8 x y + (if x13 = 0 then 0 else pm_d x8 x y) := by
  by_cases hkl : k = l
  · subst hkl
    rw [if_pos rfl] at h8
    subst h8
    by_cases hh : fs ≤ k ∧ k < fs + cn
    · rw [if_pos hh] at h13
      subst h13
      rw [pm_gr_t hh, pm_M3_s, if_neg pm_one]
      by_cases hxy : y = x
      · subst hxy
        rw [pm_d, if_neg pm_one, if_pos rfl]
        exact pm_cn 1 0 0 0 (by decide) (if_neg (fun z => absurd z (Option.some_ne_none y))) (if_pos rfl) (if_pos rfl) (if_pos rfl)
      · rw [pm_d, if_neg pm_one, if_neg hxy]
        exact pm_cn 1 0 1 1 (by decide) (if_neg (fun z => absurd z (Option.some_ne_none x))) (if_pos rfl) (if_neg (fun z => hxy (Option.some.inj z))) (if_neg (fun z => hxy (Option.some.inj z)))
    · rw [if_neg hh] at h13
      subst h13
      rw [pm_gr_f hh, pm_M3_s, if_pos rfl]
      by_cases hxy : y = x
      · subst hxy
        rw [pm_d, if_neg pm_one, if_pos rfl]
        exact pm_cn 1 0 0 0 (by decide) (if_neg (fun z => absurd z (Option.some_ne_none y))) (if_pos rfl) (if_pos rfl) (if_pos rfl)
      · rw [pm_d, if_neg pm_one, if_neg hxy]
        exact pm_cn 1 0 1 0 (by decide) (if_neg (fun z => absurd z (Option.some_ne_none x))) (if_pos rfl) (if_neg (fun z => hxy (Option.some.inj z))) (if_pos rfl)
  · rw [if_neg hkl] at h8
    subst h8
    by_cases hh : fs ≤ k ∧ k < fs + cn
    · rw [if_pos hh] at h13
      subst h13
      rw [pm_gr_t hh, pm_M3_k hkl, if_neg pm_one, pm_d, if_pos rfl]
      exact pm_cn 1 1 0 1 (by decide) (if_neg (fun z => absurd z (Option.some_ne_none x))) (if_neg (fun z => absurd (Eq.symm z) (Option.some_ne_none x))) (if_pos rfl) (if_neg (fun z => absurd z (Option.some_ne_none x)))
    · rw [if_neg hh] at h13
      subst h13
      rw [pm_gr_f hh, pm_M3_k hkl, if_pos rfl, pm_d, if_pos rfl]
      exact pm_cn 1 1 0 0 (by decide) (if_neg (fun z => absurd z (Option.some_ne_none x))) (if_neg (fun z => absurd (Eq.symm z) (Option.some_ne_none x))) (if_pos rfl) (if_pos rfl)
/-- what the grafted version holds at l -/
theorem pm_g4l {k l fs cn : Nat} {x y : Int32} : pm_lk 4 (pm_gr (pm_M3 k l x y) fs cn l) = some (if fs ≤ l ∧ l < fs + cn then y else x) := by
  by_cases hkl : k = l
  · subst hkl
    by_cases hh : fs ≤ k ∧ k < fs + cn
    · rw [pm_gr_t hh, pm_M3_s, if_pos hh]
      rfl
    · rw [pm_gr_f hh, pm_M3_s, if_neg hh]
      rfl
  · by_cases hh : fs ≤ l ∧ l < fs + cn
    · rw [pm_gr_t hh, pm_M3_l hkl, if_pos hh]
      rfl
    · rw [pm_gr_f hh, pm_M3_l hkl, if_neg hh]
      rfl
theorem pm_g4k {k l fs cn : Nat} {x y : Int32} (hkl : k ≠ l) : pm_lk 4 (pm_gr (pm_M3 k l x y) fs cn k) = if fs ≤ k ∧ k < fs + cn then some x else none := by
  by_cases hh : fs ≤ k ∧ k < fs + cn
  · rw [pm_gr_t hh, pm_M3_k hkl, if_pos hh]
    rfl
  · rw [pm_gr_f hh, pm_M3_k hkl, if_neg hh]
    rfl
theorem pm_g4o {k l fs cn j : Nat} {x y : Int32} (h : j ≠ k) (h' : j ≠ l) : pm_lk 4 (pm_gr (pm_M3 k l x y) fs cn j) = none := by
  by_cases hh : fs ≤ j ∧ j < fs + cn
  · rw [pm_gr_t hh, pm_M3_o h h']
    rfl
  · rw [pm_gr_f hh, pm_M3_o h h']
    rfl
/-- how many keys below j the grafted version holds -/
def pm_sz (k l fs cn : Nat) (j : Nat) : Nat := (if l < j then 1 else 0) + (if k ≠ l ∧ (fs ≤ k ∧ k < fs + cn) ∧ k < j then 1 else 0)
theorem pm_sz_s {k l fs cn : Nat} {x y : Int32} (j : Nat) : (pm_lk 4 (pm_gr (pm_M3 k l x y) fs cn j) = none → pm_sz k l fs cn (j + 1) = pm_sz k l fs cn j) ∧ (pm_lk 4 (pm_gr (pm_M3 k l x y) fs cn j) ≠ none → pm_sz k l fs cn (j + 1) = pm_sz k l fs cn j + 1) := by
  unfold pm_sz
  by_cases hl : j = l
  · subst hl
    rw [pm_g4l]
    refine ⟨fun z => absurd z (Option.some_ne_none _), fun _ => ?_⟩
    rw [if_pos (Nat.lt_succ_self j), if_neg (Nat.lt_irrefl j)]
    by_cases hc : k ≠ j ∧ (fs ≤ k ∧ k < fs + cn) ∧ k < j
    · rw [if_pos hc, if_pos ⟨hc.1, hc.2.1, by omega⟩]
    · rw [if_neg hc, if_neg (fun z => hc ⟨z.1, z.2.1, by have := z.1; have := z.2.2; omega⟩)]
  · have e1 : (if l < j + 1 then 1 else 0) = (if l < j then 1 else 0) := by
      by_cases hc : l < j
      · rw [if_pos hc, if_pos (by omega)]
      · rw [if_neg hc, if_neg (by omega)]
    rw [e1]
    generalize (if l < j then (1 : Nat) else 0) = t
    by_cases hk : j = k
    · subst hk
      rw [pm_g4k hl]
      by_cases hh : fs ≤ j ∧ j < fs + cn
      · rw [if_pos hh]
        refine ⟨fun z => absurd z (Option.some_ne_none _), fun _ => ?_⟩
        rw [if_pos ⟨hl, hh, Nat.lt_succ_self j⟩, if_neg (fun z => absurd z.2.2 (Nat.lt_irrefl j))]
      · rw [if_neg hh]
        refine ⟨fun _ => ?_, fun z => absurd rfl z⟩
        rw [if_neg (fun z => hh z.2.1), if_neg (fun z => hh z.2.1)]
    · rw [pm_g4o hk hl]
      refine ⟨fun _ => ?_, fun z => absurd rfl z⟩
      by_cases hc : k ≠ l ∧ (fs ≤ k ∧ k < fs + cn) ∧ k < j
      · rw [if_pos hc, if_pos ⟨hc.1, hc.2.1, by omega⟩]
      · rw [if_neg hc, if_neg (fun z => hc ⟨z.1, z.2.1, by have := z.2.2; omega⟩)]
section
variable {f2 f3 : Int32} {a4 a5 a6 a7 a8 : Nat → Int32} {mc ms kc ks : Nat}
theorem pm_g297 {k l e fs cn : Nat} {x y x8 x13 lo sz : Int32} (h8 : x8 = if k = l then 1 else 0) (h13 : x13 = if fs ≤ k ∧ k < fs + cn then 1 else 0) (hk : k < 32) (hl : l < 32) (he : e ≤ 600)
    (hH : pm_H 5 e a4 a5 a6 a7 a8 (pm_gr (pm_M3 k l x y) fs cn)) (hlo : (if fs ≤ l ∧ l < fs + cn then y else x) = lo) (hsz : nI (pm_sz k l fs cn 32) = sz) :
    wL_lawOf_297 (fun r _ => r = 1) mc ms x y (nI k) (nI l) x8 1 x13 lo sz kc ks (nI 5) (nI e) f2 f3 pm_P5 pm_L5 pm_F5 a4 a5 a6 a7 a8 := by
  unfold wL_lawOf_297
  refine pm_get (v := 4) pm_lab5 (by decide) (by decide) (by omega) hl hH (fun g2 g3 => br_f pm_one ?_)
  unfold wL_lawOf_318
  rw [pm_g4l]
  refine br_t hlo (pm_size (v := 4) (pm_sz k l fs cn) pm_lab5 (by decide) (by decide) (by omega) hH ?_ (fun j _ => pm_sz_s j) (fun g2 g3 => br_f pm_one ?_))
  · unfold pm_sz
    rw [if_neg (Nat.not_lt_zero l), if_neg (fun z => absurd z.2.2 (Nat.not_lt_zero k))]
  · exact pm_340 hsz pm_lab5 (by decide) (by decide) (by omega) hk hH pm_pa5 (pm_c5 h8 h13)
theorem pm_g276 {k l e fs cn : Nat} {x y x8 x13 lo : Int32} (h8 : x8 = if k = l then 1 else 0) (h13 : x13 = if fs ≤ k ∧ k < fs + cn then 1 else 0) (hk : k < 32) (hl : l < 32) (he : e ≤ 600)
    (hH : pm_H 5 e a4 a5 a6 a7 a8 (pm_gr (pm_M3 k l x y) fs cn)) (hlo : (if fs ≤ l ∧ l < fs + cn then y else x) = lo) :
    wL_lawOf_276 (fun r _ => r = 1) mc ms x y (nI k) (nI l) x8 1 x13 lo kc ks (nI 5) (nI e) f2 f3 pm_P5 pm_L5 pm_F5 a4 a5 a6 a7 a8 := by
  unfold wL_lawOf_276
  refine br_c (fun g8 => br_c (fun g13 => ?_) (fun g13 => ?_)) (fun g8 => ?_)
  · refine pm_g297 h8 h13 hk hl he hH hlo ?_
    unfold pm_sz
    rw [if_pos hl]
    by_cases hh : fs ≤ k ∧ k < fs + cn
    · rw [if_pos hh] at h13
      exact absurd (h13.symm.trans g13) pm_one
    · rw [if_neg (fun z => hh z.2.1)]
      rfl
  · refine pm_g297 h8 h13 hk hl he hH hlo ?_
    unfold pm_sz
    rw [if_pos hl]
    by_cases hh : fs ≤ k ∧ k < fs + cn
    · by_cases hkl : k = l
      · rw [if_pos hkl] at h8
        exact absurd (h8.symm.trans g8) pm_one
      · rw [if_pos ⟨hkl, hh, hk⟩]
        rfl
    · rw [if_neg hh] at h13
      exact absurd h13 g13
  · refine pm_g297 h8 h13 hk hl he hH hlo ?_
    unfold pm_sz
    rw [if_pos hl]
    by_cases hkl : k = l
    · rw [if_neg (fun z => z.1 hkl)]
      rfl
    · rw [if_neg hkl] at h8
      exact absurd h8 g8
theorem pm_g249 {k l e fs cn : Nat} {x y x8 x12 x13 : Int32} (h8 : x8 = if k = l then 1 else 0) (h12 : x12 = if fs ≤ l ∧ l < fs + cn then 1 else 0) (h13 : x13 = if fs ≤ k ∧ k < fs + cn then 1 else 0) (hk : k < 32) (hl : l < 32) (he : e ≤ 600)
    (hH : pm_H 5 e a4 a5 a6 a7 a8 (pm_gr (pm_M3 k l x y) fs cn)) :
    wL_lawOf_249 (fun r _ => r = 1) mc ms x y (nI k) (nI l) x8 1 x12 x13 kc ks (nI 5) (nI e) f2 f3 pm_P5 pm_L5 pm_F5 a4 a5 a6 a7 a8 := by
  have n12 : x12 = 0 → ¬ (fs ≤ l ∧ l < fs + cn) := by
    intro z hh
    rw [if_pos hh] at h12
    exact pm_one (h12.symm.trans z)
  unfold wL_lawOf_249
  refine br_c (fun g12 => br_f pm_one (br_c (fun g8 => ?_) (fun g8 => br_c (fun g13 => ?_) (fun g13 => ?_)))) (fun g12 => ?_)
  · exact pm_g276 h8 h13 hk hl he hH (if_neg (n12 g12))
  · exact pm_g276 h8 h13 hk hl he hH (if_neg (n12 g12))
  · by_cases hkl : k = l
    · have e1 : x13 = x12 := by rw [h13, h12, hkl]
      exact absurd (e1.trans g12) g13
    · rw [if_neg hkl] at h8
      exact absurd h8 g8
  · by_cases hh : fs ≤ l ∧ l < fs + cn
    · exact pm_g276 h8 h13 hk hl he hH (if_pos hh)
    · rw [if_neg hh] at h12
      exact absurd h12 g12
theorem pm_g220 {k l e fs cn : Nat} {x y x8 x12 : Int32} (h8 : x8 = if k = l then 1 else 0) (h12 : x12 = if fs ≤ l ∧ l < fs + cn then 1 else 0) (hk : k < 32) (hl : l < 32) (he : e ≤ 600) (hfs : fs + cn ≤ 32)
    (hH : pm_H 5 e a4 a5 a6 a7 a8 (pm_gr (pm_M3 k l x y) fs cn)) :
    wL_lawOf_220 (fun r _ => r = 1) mc ms x y (nI k) (nI l) x8 (nI fs) (nI cn) 1 x12 kc ks (nI 5) (nI e) f2 f3 pm_P5 pm_L5 pm_F5 a4 a5 a6 a7 a8 := by
  unfold wL_lawOf_220
  rw [nI_add fs cn]
  refine br_f pm_one (pk_lt k fs (fun g => ?_) (fun g => pk_le (fs + cn) k (fun g' => ?_) (fun g' => ?_)))
  · exact pm_g249 h8 h12 (if_neg (by omega)).symm hk hl he hH
  · exact pm_g249 h8 h12 (if_neg (by omega)).symm hk hl he hH
  · exact pm_g249 h8 h12 (if_pos ⟨g, g'⟩).symm hk hl he hH
theorem pm_goodw {k l e n : Nat} {x y x8 : Int32} (h8 : x8 = if k = l then 1 else 0) (hk : k < 32) (hl : l < 32) (he : e ≤ 100) (hn : n < 2 ^ 31) (hg : pm_good n) (hH : pm_H 4 e a4 a5 a6 a7 a8 (pm_M3 k l x y)) :
    wL_lawOf_166 (fun r _ => r = 1) mc ms x y (nI n) (nI k) (nI l) x8 (nI (n / 16)) (nI (n % 16)) 1 kc ks (nI 4) (nI e) f2 f3 pm_P4 pm_L4 pm_F4 a4 a5 a6 a7 a8 := by
  have hfs : n / 16 + n % 16 ≤ 32 := hg.2.2.2
  unfold wL_lawOf_166
  refine pm_graft1 hn hg he (pm_M3_ok k l x y) hH (fun e' g2 g3 b4 b5 b6 b7 b8 he' hH' => br_f pm_one ?_)
  unfold wL_lawOf_188
  rw [nI_add (n / 16) (n % 16)]
  refine br_t rfl (br_f pm_one (pk_lt l (n / 16) (fun g => ?_) (fun g => pk_le (n / 16 + n % 16) l (fun g' => ?_) (fun g' => ?_))))
  · exact pm_g220 h8 (if_neg (by omega)).symm hk hl he' hfs hH'
  · exact pm_g220 h8 (if_neg (by omega)).symm hk hl he' hfs hH'
  · exact pm_g220 h8 (if_pos ⟨g, g'⟩).symm hk hl he' hfs hH'
end
end
section
section
variable {f2 f3 : Int32} {a4 a5 a6 a7 a8 : Nat → Int32} {mc ms kc ks : Nat}
theorem pm_109 {k l e : Nat} {x y p x8 z0 z1 : Int32} (hz : z1 = z0) (h8 : x8 = if k = l then 1 else 0) (hk : k < 32) (hl : l < 32) (he : e ≤ 100) (hH : pm_H 4 e a4 a5 a6 a7 a8 (pm_M3 k l x y)) :
    wL_lawOf_109 (fun r _ => r = 1) mc ms x y p (nI k) (nI l) x8 z0 z1 kc ks (nI 4) (nI e) f2 f3 pm_P4 pm_L4 pm_F4 a4 a5 a6 a7 a8 := by
  have B : ∀ x9 x10 : Int32, (p < 0 ∨ ∃ n : Nat, n < 2 ^ 31 ∧ p = nI n ∧ ¬ pm_good n) → wL_lawOf_165 (fun r _ => r = 1) mc ms x y p (nI k) (nI l) x8 x9 x10 kc ks (nI 4) (nI e) f2 f3 pm_P4 pm_L4 pm_F4 a4 a5 a6 a7 a8 :=
    fun x9 x10 h => pm_bad h8 hk (by omega) hH h
  unfold wL_lawOf_109
  refine br_t hz ?_
  by_cases hp : p < 0
  · exact nm_e (nm_e (br_t hp (B _ _ (Or.inl hp))))
  · obtain ⟨n, hn, e1⟩ := nI_of hp
    subst e1
    have B' : ¬ pm_good n → (nI n < 0 ∨ ∃ m : Nat, m < 2 ^ 31 ∧ nI n = nI m ∧ ¬ pm_good m) := fun h => Or.inr ⟨n, hn, rfl, h⟩
    rw [pm_shr4 hn, pm_and15 hn]
    refine nm_e (nm_e (br_f hp ?_))
    rw [nI_add (n / 16) (n % 16)]
    refine pk_le (n % 16) 0 (fun g => B _ _ (B' ?_)) (fun g1 => pk_le 9 (n % 16) (fun g => B _ _ (B' ?_)) (fun g2 => pk_lt 32 (n / 16 + n % 16) (fun g => B _ _ (B' ?_)) (fun g3 => pk_le 32 (n / 16) (fun g => B _ _ (B' ?_)) (fun g4 => ?_))))
    · intro h
      have := h.1
      omega
    · intro h
      have := h.2.1
      omega
    · intro h
      have := h.2.2.2
      omega
    · intro h
      have := h.2.2.1
      omega
    · exact pm_goodw h8 hk hl he hn ⟨by omega, by omega, by omega, by omega⟩ hH
theorem pm_k2l {k l : Nat} {x y : Int32} : pm_lk 2 (pm_M3 k l x y l) = some x := by
  by_cases hkl : k = l
  · subst hkl
    rw [pm_M3_s]
    rfl
  · rw [pm_M3_l hkl]
    rfl
theorem pm_k2k {k l : Nat} {x y : Int32} : pm_th (pm_lk 2 (pm_M3 k l x y k)) = if k = l then 1 else 0 := by
  by_cases hkl : k = l
  · subst hkl
    rw [pm_M3_s, if_pos rfl]
    rfl
  · rw [pm_M3_k hkl, if_neg hkl]
    rfl
theorem pm_77 {k l e : Nat} {x y p z0 : Int32} (h8 : z0 = if k = l then 1 else 0) (hk : k < 32) (hl : l < 32) (he : e ≤ 100) (hH : pm_H 4 e a4 a5 a6 a7 a8 (pm_M3 k l x y)) :
    wL_lawOf_77 (fun r _ => r = 1) mc ms x y p (nI k) (nI l) z0 kc ks (nI 4) (nI e) f2 f3 pm_P4 pm_L4 pm_F4 a4 a5 a6 a7 a8 := by
  unfold wL_lawOf_77
  refine pm_get (v := 2) pm_lab4 (by decide) (by decide) (by omega) hl hH (fun g2 g3 => br_t (by rw [pm_k2l]; rfl) ?_)
  refine pm_has (v := 2) pm_lab4 (by decide) (by decide) (by omega) hk hH (fun g2 g3 => br_c (fun g => pm_109 ?_ h8 hk hl he hH) (fun g => pm_109 ?_ h8 hk hl he hH))
  · rw [pm_k2k, ← h8]
    exact g
  · rw [pm_k2k]
    by_cases hkl : k = l
    · rw [if_pos hkl]
    · rw [if_neg hkl] at h8
      exact absurd h8 g
end
theorem pm_M1_s {k : Nat} {x : Int32} : pm_M1 k x k = [(1, some x)] := if_pos rfl
theorem pm_M1_n {k j : Nat} {x : Int32} (h : j ≠ k) : pm_M1 k x j = [] := if_neg h
theorem pm_M2_s {k : Nat} {x : Int32} : pm_M2 k k x k = [(1, some x), (2, some x)] := by
  unfold pm_M2
  rw [if_pos rfl, if_pos rfl]
theorem pm_M2_k {k l : Nat} {x : Int32} (h : k ≠ l) : pm_M2 k l x k = [(1, some x), (2, none)] := by
  unfold pm_M2
  rw [if_pos rfl, if_neg h]
theorem pm_M2_l {k l : Nat} {x : Int32} (h : k ≠ l) : pm_M2 k l x l = [(2, some x)] := by
  unfold pm_M2
  rw [if_neg (Ne.symm h), if_pos rfl]
theorem pm_M2_o {k l j : Nat} {x : Int32} (h : j ≠ k) (h' : j ≠ l) : pm_M2 k l x j = [] := by
  unfold pm_M2
  rw [if_neg h, if_neg h']
theorem pm_lawOf {x y v o p : Int32} : wpL_lawOf (fun r _ => r = 1) 9 2724 () x y v o p := by
  obtain ⟨k, hk, ek⟩ := pk_andE x (m := 31) 5 (by decide)
  obtain ⟨l, hl, el⟩ := pk_andE y (m := 31) 5 (by decide)
  have hk : k < 32 := hk
  have hl : l < 32 := hl
  unfold wpL_lawOf
  refine ⟨by decide, by decide, 8, 2712, by decide, by decide, pm_init (by decide) (by decide) (fun b4 hb4 => nm_r ek (nm_r el ?_))⟩
  have H0 : pm_H 2 0 b4 (fun _ => 0) (fun _ => 0) (fun _ => 0) (fun _ => 0) (fun _ => []) := ⟨fun _ => 0, fun κ hκ => hb4 κ hκ⟩
  refine pm_put (c := 1) (v := 0) (e := 0) (κ := k) (P := fun b4 b5 b6 b7 b8 => pm_H 2 1 b4 b5 b6 b7 b8 (pm_M1 k v)) (by decide) (by decide) hk pm_o1
    (fun post' h => pm_wr (c := 2) (v := 1) (o := some v) pm_lab2 (by decide) (by decide) (by decide) hk H0 List.nodup_nil (fun q z => absurd z.symm (Option.some_ne_none _)) (Or.inl (by decide +kernel)) post' (fun b4 b5 b6 b7 b8 hH => h _ _ _ _ _ (pm_H_c hH (fun j hj => rfl)))) (fun c4 c5 c6 c7 c8 H1 => br_t rfl ?_)
  have E : ∃ e2, e2 ≤ 3 ∧ (k = l → e2 = 2) ∧ (k ≠ l → e2 = 3) := by
    by_cases hkl : k = l
    · exact ⟨2, by decide, fun _ => rfl, fun z => absurd hkl z⟩
    · exact ⟨3, by decide, fun z => absurd z hkl, fun _ => rfl⟩
  obtain ⟨e2, he2, hes, hen⟩ := E
  have H1' := pm_H_up (c' := 3) (by decide) H1
  refine pm_exc (c := 2) (v := 1) (k := k) (l := l) (e := 1) (e1 := 2) (e2 := e2) (M := pm_M1 k v) (M1 := pm_mu (pm_M1 k v) k (pm_ins 2 (pm_lk 1 (pm_M1 k v l)) (pm_M1 k v k))) (M2 := pm_M2 k l v)
    (by decide) (by decide) hk hl (by decide) pm_lab3 pm_o2 H1' (fun g2 g3 post' h => ?_) (fun g2 g3 c4 c5 c6 c7 c8 H2 post' h => ?_) (fun g2 g3 c4 c5 c6 c7 c8 H2 => br_t rfl ?_)
  · refine pm_wr (c := 3) (v := 2) (o := pm_lk 1 (pm_M1 k v l)) pm_lab3 (by decide) (by decide) (by decide) hk H1' ?_ ?_ (Or.inl (by decide +kernel)) post' h
    · rw [pm_M1_s]
      show [1].Nodup
      decide
    · rw [pm_M1_s]
      intro q z
      exact absurd (show 1 = 2 from congrArg Prod.fst (Option.some.inj z)) (by decide)
  · by_cases hkl : k = l
    · have he := hes hkl
      subst hkl he
      refine pm_ws (c := 3) (v := 2) (o := pm_lk 1 (pm_M1 k v k)) pm_lab3 (by decide) (by decide) (by decide) hk H2 ?_ post' (h _ _ _ _ _ (pm_H_c H2 (fun j hj => ?_)))
      · rw [pm_mu_s, pm_M1_s]
        rfl
      · by_cases hj : j = k
        · rw [hj, pm_mu_s, pm_M2_s, pm_M1_s]
          rfl
        · rw [pm_mu_n hj, pm_M2_o hj hj, pm_M1_n hj]
    · have he := hen hkl
      subst he
      have eL : pm_mu (pm_M1 k v) k (pm_ins 2 (pm_lk 1 (pm_M1 k v l)) (pm_M1 k v k)) l = [] := by
        rw [pm_mu_n (Ne.symm hkl), pm_M1_n (Ne.symm hkl)]
      refine pm_wr (c := 3) (v := 2) (o := pm_lk 1 (pm_M1 k v k)) pm_lab3 (by decide) (by decide) (by decide) hl H2 ?_ ?_ (Or.inl (by decide +kernel)) post' (fun d4 d5 d6 d7 d8 H3 => h _ _ _ _ _ (pm_H_c H3 (fun j hj => ?_)))
      · rw [eL]
        exact List.nodup_nil
      · rw [eL]
        exact fun q z => absurd z.symm (Option.some_ne_none _)
      · by_cases hj : j = l
        · rw [hj, pm_mu_s, eL, pm_M2_l hkl, pm_M1_s]
          rfl
        · rw [pm_mu_n hj]
          by_cases hj2 : j = k
          · rw [hj2, pm_mu_s, pm_M2_k hkl, pm_M1_s, pm_M1_n (Ne.symm hkl)]
            rfl
          · rw [pm_mu_n hj2, pm_M2_o hj2 hj, pm_M1_n hj2]
  · have H2' := pm_H_up (c' := 4) (by decide) H2
    refine pm_put (c := 3) (v := 1) (e := e2) (κ := l) (P := fun b4 b5 b6 b7 b8 => pm_H 4 (e2 + 1) b4 b5 b6 b7 b8 (pm_M3 k l v o)) (by decide) (by decide) hl pm_o3
      (fun post' h => pm_wr (c := 4) (v := 3) (o := some o) pm_lab4 (by decide) (by decide) (by omega) hl H2' ?_ ?_ (Or.inr ⟨2, ?_, by decide +kernel⟩) post' (fun b4 b5 b6 b7 b8 hH => h _ _ _ _ _ (pm_H_c hH (fun j hj => ?_)))) (fun d4 d5 d6 d7 d8 H3 => br_t rfl ?_)
    · by_cases hkl : k = l
      · subst hkl
        rw [pm_M2_s]
        show [1, 2].Nodup
        decide
      · rw [pm_M2_l hkl]
        show [2].Nodup
        decide
    · by_cases hkl : k = l
      · subst hkl
        rw [pm_M2_s]
        intro q z
        exact absurd (show 1 = 3 from congrArg Prod.fst (Option.some.inj z)) (by decide)
      · rw [pm_M2_l hkl]
        exact fun q z => absurd z.symm (Option.some_ne_none _)
    · by_cases hkl : k = l
      · subst hkl
        rw [pm_M2_s]
        rfl
      · rw [pm_M2_l hkl]
        rfl
    · by_cases hkl : k = l
      · subst hkl
        by_cases hj2 : j = k
        · rw [hj2, pm_mu_s, pm_M2_s, pm_M3_s]
          rfl
        · rw [pm_mu_n hj2, pm_M2_o hj2 hj2, pm_M3_o hj2 hj2]
      · by_cases hj2 : j = l
        · rw [hj2, pm_mu_s, pm_M2_l hkl, pm_M3_l hkl]
          rfl
        · rw [pm_mu_n hj2]
          by_cases hj3 : j = k
          · rw [hj3, pm_M2_k hkl, pm_M3_k hkl]
          · rw [pm_M2_o hj3 hj2, pm_M3_o hj3 hj2]
    · exact pk_eq k l (fun g => pm_77 (if_pos g).symm hk hl (by omega) H3) (fun g => pm_77 (if_neg g).symm hk hl (by omega) H3)
theorem pm_cell {post : Int32 → Prop} {L : Nat} {xs : Nat → Int32} (i : Nat) (hi : i < 2 ^ 31) (hL : L ≤ 5) (H : ∀ r, post r) : wpL_cellAt post L xs () (nI i) := by
  unfold wpL_cellAt
  exact pk_le L i (fun _ => H _) (fun z => ⟨pk_in i L z, H _⟩)
theorem i_vc (xs : Nat → Int32) (L : Nat) (hL : L ≤ 5) : wpL_law (fun r => r = 1) L xs := by
  unfold wpL_law
  exact pm_cell 0 (by decide) hL (fun r1 => pm_cell 1 (by decide) hL (fun r2 => pm_cell 2 (by decide) hL (fun r3 => pm_cell 3 (by decide) hL (fun r4 => pm_cell 4 (by decide) hL (fun r5 => ⟨9, 2724, by decide, by decide, pm_lawOf⟩)))))
end
