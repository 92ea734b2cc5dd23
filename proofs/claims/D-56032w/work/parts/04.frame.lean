set_option maxRecDepth 100000
/-! ===== the z layer: a method's walk over an abstract heap, with no machine in the goal ===== -/
/-- an object (class number, first fields) or an array (element type, length, contents) -/
abbrev zO : Type := (Nat × List Value) ⊕ (FieldType × Nat × (Nat → Value))
abbrev zH : Type := Nat → Option zO
/-- a method: name, code, locals, answer, handlers -/
abbrev zMd : Type := MethodName × ByteArray × Nat × Option FieldType × List (Nat × Nat × Nat × Nat)
/-- an end: returned or thrown -/
abbrev zRs : Type := Option Value ⊕ (String × Nat)
def z_up (ah : zH) (a : Nat) (o : zO) : zH := fun b => if b = a then some o else ah b
theorem z_up_s {ah : zH} {a : Nat} {o : zO} : z_up ah a o a = some o := by simp [z_up]
theorem z_up_n {ah : zH} {a b : Nat} {o : zO} (h : b ≠ a) : z_up ah a o b = ah b := by simp [z_up, h]
/-- the classes of objects that are made -/
def zCl : List vw_C := [(RX1, TX1, 8), (RX2, TX2, 10), (RX4, TX4, 18), (RX5, TX5, 2), (RX6, TX6, 2), (RX7, TX7, 3), (RX8, TX8, 1), (RX9, TX9, 2), (RX10, TX10, 1), (RX11, TX10, 0), (RX13, TX13, 2), (RX14, TX14, 7), (RX15, TX15, 1), (RJ2, TJ2, 3), (RJ29, TJ29, 4), (RJ4, TJ4, 3), (RJ6, TJ6, 4), (RJ7, TJ7, 4), (RJ12, TJ12, 0), (RJ13, TJ13, 0), (RJ21, TJ21, 0), (RJ22, TJ22, 0), (RJ25, TJ25, 0), (RJ26, TJ26, 0)]
def zSg1 : Lambda.Shape := ({ iface := "TrailGuide$WaypointTest", name := "isSo", sam := ({ parameters := [Jvm.ClassFile.FieldType.int], returnType := (Option.some Jvm.ClassFile.FieldType.boolean) } : Jvm.ClassFile.MethodDescriptor), captured := [(Jvm.ClassFile.FieldType.array Jvm.ClassFile.FieldType.boolean)], kind := 6, implClass := "TrailGuide$State", implName := "lambda$components$2", implDesc := ({ parameters := [(Jvm.ClassFile.FieldType.array Jvm.ClassFile.FieldType.boolean), Jvm.ClassFile.FieldType.int], returnType := (Option.some Jvm.ClassFile.FieldType.boolean) } : Jvm.ClassFile.MethodDescriptor), implItf := false, inst := ({ parameters := [Jvm.ClassFile.FieldType.int], returnType := (Option.some Jvm.ClassFile.FieldType.boolean) } : Jvm.ClassFile.MethodDescriptor) } : Jvm.Lambda.Shape)
def zSg2 : Lambda.Shape := ({ iface := "TrailGuide$WaypointTest", name := "isSo", sam := ({ parameters := [Jvm.ClassFile.FieldType.int], returnType := (Option.some Jvm.ClassFile.FieldType.boolean) } : Jvm.ClassFile.MethodDescriptor), captured := [(Jvm.ClassFile.FieldType.array Jvm.ClassFile.FieldType.boolean)], kind := 6, implClass := "TrailGuide$State", implName := "lambda$components$3", implDesc := ({ parameters := [(Jvm.ClassFile.FieldType.array Jvm.ClassFile.FieldType.boolean), Jvm.ClassFile.FieldType.int], returnType := (Option.some Jvm.ClassFile.FieldType.boolean) } : Jvm.ClassFile.MethodDescriptor), implItf := false, inst := ({ parameters := [Jvm.ClassFile.FieldType.int], returnType := (Option.some Jvm.ClassFile.FieldType.boolean) } : Jvm.ClassFile.MethodDescriptor) } : Jvm.Lambda.Shape)
def zSg3 : Lambda.Shape := ({ iface := "TrailGuide$TrailVisitor", name := "visit", sam := ({ parameters := [Jvm.ClassFile.FieldType.int, Jvm.ClassFile.FieldType.int], returnType := (Option.none : Option Jvm.ClassFile.FieldType) } : Jvm.ClassFile.MethodDescriptor), captured := [(Jvm.ClassFile.FieldType.array Jvm.ClassFile.FieldType.int), Jvm.ClassFile.FieldType.int], kind := 6, implClass := "TrailGuide$State", implName := "lambda$distancesFrom$0", implDesc := ({ parameters := [(Jvm.ClassFile.FieldType.array Jvm.ClassFile.FieldType.int), Jvm.ClassFile.FieldType.int, Jvm.ClassFile.FieldType.int, Jvm.ClassFile.FieldType.int], returnType := (Option.none : Option Jvm.ClassFile.FieldType) } : Jvm.ClassFile.MethodDescriptor), implItf := false, inst := ({ parameters := [Jvm.ClassFile.FieldType.int, Jvm.ClassFile.FieldType.int], returnType := (Option.none : Option Jvm.ClassFile.FieldType) } : Jvm.ClassFile.MethodDescriptor) } : Jvm.Lambda.Shape)
def zSg4 : Lambda.Shape := ({ iface := "TrailGuide$TrailVisitor", name := "visit", sam := ({ parameters := [Jvm.ClassFile.FieldType.int, Jvm.ClassFile.FieldType.int], returnType := (Option.none : Option Jvm.ClassFile.FieldType) } : Jvm.ClassFile.MethodDescriptor), captured := [(Jvm.ClassFile.FieldType.array Jvm.ClassFile.FieldType.int), Jvm.ClassFile.FieldType.int], kind := 6, implClass := "TrailGuide$State", implName := "lambda$distancesByRelaxation$1", implDesc := ({ parameters := [(Jvm.ClassFile.FieldType.array Jvm.ClassFile.FieldType.int), Jvm.ClassFile.FieldType.int, Jvm.ClassFile.FieldType.int, Jvm.ClassFile.FieldType.int], returnType := (Option.none : Option Jvm.ClassFile.FieldType) } : Jvm.ClassFile.MethodDescriptor), implItf := false, inst := ({ parameters := [Jvm.ClassFile.FieldType.int, Jvm.ClassFile.FieldType.int], returnType := (Option.none : Option Jvm.ClassFile.FieldType) } : Jvm.ClassFile.MethodDescriptor) } : Jvm.Lambda.Shape)
def zSg5 : Lambda.Shape := ({ iface := "TrailGuide$WaypointTest", name := "isSo", sam := ({ parameters := [Jvm.ClassFile.FieldType.int], returnType := (Option.some Jvm.ClassFile.FieldType.boolean) } : Jvm.ClassFile.MethodDescriptor), captured := [(Jvm.ClassFile.FieldType.array Jvm.ClassFile.FieldType.int), (Jvm.ClassFile.FieldType.array Jvm.ClassFile.FieldType.int)], kind := 6, implClass := "TrailGuide", implName := "lambda$haveEqualDistances$9", implDesc := ({ parameters := [(Jvm.ClassFile.FieldType.array Jvm.ClassFile.FieldType.int), (Jvm.ClassFile.FieldType.array Jvm.ClassFile.FieldType.int), Jvm.ClassFile.FieldType.int], returnType := (Option.some Jvm.ClassFile.FieldType.boolean) } : Jvm.ClassFile.MethodDescriptor), implItf := false, inst := ({ parameters := [Jvm.ClassFile.FieldType.int], returnType := (Option.some Jvm.ClassFile.FieldType.boolean) } : Jvm.ClassFile.MethodDescriptor) } : Jvm.Lambda.Shape)
def zSg6 : Lambda.Shape := ({ iface := "TrailGuide$Change", name := "applyTo", sam := ({ parameters := [(Jvm.ClassFile.FieldType.object "TrailGuide$State")], returnType := (Option.some Jvm.ClassFile.FieldType.int) } : Jvm.ClassFile.MethodDescriptor), captured := [Jvm.ClassFile.FieldType.int, Jvm.ClassFile.FieldType.int, Jvm.ClassFile.FieldType.int], kind := 6, implClass := "TrailGuide", implName := "lambda$addWaypoint$0", implDesc := ({ parameters := [Jvm.ClassFile.FieldType.int, Jvm.ClassFile.FieldType.int, Jvm.ClassFile.FieldType.int, (Jvm.ClassFile.FieldType.object "TrailGuide$State")], returnType := (Option.some Jvm.ClassFile.FieldType.int) } : Jvm.ClassFile.MethodDescriptor), implItf := false, inst := ({ parameters := [(Jvm.ClassFile.FieldType.object "TrailGuide$State")], returnType := (Option.some Jvm.ClassFile.FieldType.int) } : Jvm.ClassFile.MethodDescriptor) } : Jvm.Lambda.Shape)
def zSg7 : Lambda.Shape := ({ iface := "TrailGuide$Change", name := "applyTo", sam := ({ parameters := [(Jvm.ClassFile.FieldType.object "TrailGuide$State")], returnType := (Option.some Jvm.ClassFile.FieldType.int) } : Jvm.ClassFile.MethodDescriptor), captured := [Jvm.ClassFile.FieldType.int, Jvm.ClassFile.FieldType.int, Jvm.ClassFile.FieldType.int], kind := 6, implClass := "TrailGuide", implName := "lambda$addTrail$1", implDesc := ({ parameters := [Jvm.ClassFile.FieldType.int, Jvm.ClassFile.FieldType.int, Jvm.ClassFile.FieldType.int, (Jvm.ClassFile.FieldType.object "TrailGuide$State")], returnType := (Option.some Jvm.ClassFile.FieldType.int) } : Jvm.ClassFile.MethodDescriptor), implItf := false, inst := ({ parameters := [(Jvm.ClassFile.FieldType.object "TrailGuide$State")], returnType := (Option.some Jvm.ClassFile.FieldType.int) } : Jvm.ClassFile.MethodDescriptor) } : Jvm.Lambda.Shape)
def zSg8 : Lambda.Shape := ({ iface := "TrailGuide$Change", name := "applyTo", sam := ({ parameters := [(Jvm.ClassFile.FieldType.object "TrailGuide$State")], returnType := (Option.some Jvm.ClassFile.FieldType.int) } : Jvm.ClassFile.MethodDescriptor), captured := [Jvm.ClassFile.FieldType.int, Jvm.ClassFile.FieldType.int], kind := 6, implClass := "TrailGuide", implName := "lambda$removeTrail$2", implDesc := ({ parameters := [Jvm.ClassFile.FieldType.int, Jvm.ClassFile.FieldType.int, (Jvm.ClassFile.FieldType.object "TrailGuide$State")], returnType := (Option.some Jvm.ClassFile.FieldType.int) } : Jvm.ClassFile.MethodDescriptor), implItf := false, inst := ({ parameters := [(Jvm.ClassFile.FieldType.object "TrailGuide$State")], returnType := (Option.some Jvm.ClassFile.FieldType.int) } : Jvm.ClassFile.MethodDescriptor) } : Jvm.Lambda.Shape)
def zSg9 : Lambda.Shape := ({ iface := "TrailGuide$Change", name := "applyTo", sam := ({ parameters := [(Jvm.ClassFile.FieldType.object "TrailGuide$State")], returnType := (Option.some Jvm.ClassFile.FieldType.int) } : Jvm.ClassFile.MethodDescriptor), captured := [Jvm.ClassFile.FieldType.int, Jvm.ClassFile.FieldType.int], kind := 6, implClass := "TrailGuide", implName := "lambda$startTour$3", implDesc := ({ parameters := [Jvm.ClassFile.FieldType.int, Jvm.ClassFile.FieldType.int, (Jvm.ClassFile.FieldType.object "TrailGuide$State")], returnType := (Option.some Jvm.ClassFile.FieldType.int) } : Jvm.ClassFile.MethodDescriptor), implItf := false, inst := ({ parameters := [(Jvm.ClassFile.FieldType.object "TrailGuide$State")], returnType := (Option.some Jvm.ClassFile.FieldType.int) } : Jvm.ClassFile.MethodDescriptor) } : Jvm.Lambda.Shape)
def zSg10 : Lambda.Shape := ({ iface := "TrailGuide$WaypointTest", name := "isSo", sam := ({ parameters := [Jvm.ClassFile.FieldType.int], returnType := (Option.some Jvm.ClassFile.FieldType.boolean) } : Jvm.ClassFile.MethodDescriptor), captured := [(Jvm.ClassFile.FieldType.object "TrailGuide$State"), Jvm.ClassFile.FieldType.int, (Jvm.ClassFile.FieldType.array Jvm.ClassFile.FieldType.int)], kind := 5, implClass := "TrailGuide$State", implName := "lambda$successor$4", implDesc := ({ parameters := [Jvm.ClassFile.FieldType.int, (Jvm.ClassFile.FieldType.array Jvm.ClassFile.FieldType.int), Jvm.ClassFile.FieldType.int], returnType := (Option.some Jvm.ClassFile.FieldType.boolean) } : Jvm.ClassFile.MethodDescriptor), implItf := false, inst := ({ parameters := [Jvm.ClassFile.FieldType.int], returnType := (Option.some Jvm.ClassFile.FieldType.boolean) } : Jvm.ClassFile.MethodDescriptor) } : Jvm.Lambda.Shape)
def zSg11 : Lambda.Shape := ({ iface := "TrailGuide$Change", name := "applyTo", sam := ({ parameters := [(Jvm.ClassFile.FieldType.object "TrailGuide$State")], returnType := (Option.some Jvm.ClassFile.FieldType.int) } : Jvm.ClassFile.MethodDescriptor), captured := [], kind := 6, implClass := "TrailGuide", implName := "lambda$stopTour$4", implDesc := ({ parameters := [(Jvm.ClassFile.FieldType.object "TrailGuide$State")], returnType := (Option.some Jvm.ClassFile.FieldType.int) } : Jvm.ClassFile.MethodDescriptor), implItf := false, inst := ({ parameters := [(Jvm.ClassFile.FieldType.object "TrailGuide$State")], returnType := (Option.some Jvm.ClassFile.FieldType.int) } : Jvm.ClassFile.MethodDescriptor) } : Jvm.Lambda.Shape)
def zSg12 : Lambda.Shape := ({ iface := "TrailGuide$Change", name := "applyTo", sam := ({ parameters := [(Jvm.ClassFile.FieldType.object "TrailGuide$State")], returnType := (Option.some Jvm.ClassFile.FieldType.int) } : Jvm.ClassFile.MethodDescriptor), captured := [Jvm.ClassFile.FieldType.int, Jvm.ClassFile.FieldType.int], kind := 6, implClass := "TrailGuide", implName := "lambda$update$5", implDesc := ({ parameters := [Jvm.ClassFile.FieldType.int, Jvm.ClassFile.FieldType.int, (Jvm.ClassFile.FieldType.object "TrailGuide$State")], returnType := (Option.some Jvm.ClassFile.FieldType.int) } : Jvm.ClassFile.MethodDescriptor), implItf := false, inst := ({ parameters := [(Jvm.ClassFile.FieldType.object "TrailGuide$State")], returnType := (Option.some Jvm.ClassFile.FieldType.int) } : Jvm.ClassFile.MethodDescriptor) } : Jvm.Lambda.Shape)
def zSg13 : Lambda.Shape := ({ iface := "TrailGuide$Change", name := "applyTo", sam := ({ parameters := [(Jvm.ClassFile.FieldType.object "TrailGuide$State")], returnType := (Option.some Jvm.ClassFile.FieldType.int) } : Jvm.ClassFile.MethodDescriptor), captured := [Jvm.ClassFile.FieldType.int], kind := 6, implClass := "TrailGuide", implName := "lambda$setTolerance$6", implDesc := ({ parameters := [Jvm.ClassFile.FieldType.int, (Jvm.ClassFile.FieldType.object "TrailGuide$State")], returnType := (Option.some Jvm.ClassFile.FieldType.int) } : Jvm.ClassFile.MethodDescriptor), implItf := false, inst := ({ parameters := [(Jvm.ClassFile.FieldType.object "TrailGuide$State")], returnType := (Option.some Jvm.ClassFile.FieldType.int) } : Jvm.ClassFile.MethodDescriptor) } : Jvm.Lambda.Shape)
def zSg14 : Lambda.Shape := ({ iface := "TrailGuide$Change", name := "applyTo", sam := ({ parameters := [(Jvm.ClassFile.FieldType.object "TrailGuide$State")], returnType := (Option.some Jvm.ClassFile.FieldType.int) } : Jvm.ClassFile.MethodDescriptor), captured := [Jvm.ClassFile.FieldType.int], kind := 6, implClass := "TrailGuide", implName := "lambda$setMode$7", implDesc := ({ parameters := [Jvm.ClassFile.FieldType.int, (Jvm.ClassFile.FieldType.object "TrailGuide$State")], returnType := (Option.some Jvm.ClassFile.FieldType.int) } : Jvm.ClassFile.MethodDescriptor), implItf := false, inst := ({ parameters := [(Jvm.ClassFile.FieldType.object "TrailGuide$State")], returnType := (Option.some Jvm.ClassFile.FieldType.int) } : Jvm.ClassFile.MethodDescriptor) } : Jvm.Lambda.Shape)
def zSg15 : Lambda.Shape := ({ iface := "TrailGuide$Change", name := "applyTo", sam := ({ parameters := [(Jvm.ClassFile.FieldType.object "TrailGuide$State")], returnType := (Option.some Jvm.ClassFile.FieldType.int) } : Jvm.ClassFile.MethodDescriptor), captured := [Jvm.ClassFile.FieldType.int], kind := 6, implClass := "TrailGuide", implName := "lambda$charge$8", implDesc := ({ parameters := [Jvm.ClassFile.FieldType.int, (Jvm.ClassFile.FieldType.object "TrailGuide$State")], returnType := (Option.some Jvm.ClassFile.FieldType.int) } : Jvm.ClassFile.MethodDescriptor), implItf := false, inst := ({ parameters := [(Jvm.ClassFile.FieldType.object "TrailGuide$State")], returnType := (Option.some Jvm.ClassFile.FieldType.int) } : Jvm.ClassFile.MethodDescriptor) } : Jvm.Lambda.Shape)
def zSg16 : Lambda.Shape := ({ iface := "TrailGuide$TrailVisitor", name := "visit", sam := ({ parameters := [Jvm.ClassFile.FieldType.int, Jvm.ClassFile.FieldType.int], returnType := (Option.none : Option Jvm.ClassFile.FieldType) } : Jvm.ClassFile.MethodDescriptor), captured := [(Jvm.ClassFile.FieldType.object "TrailGuide")], kind := 5, implClass := "TrailGuide", implName := "lambda$writeTrails$10", implDesc := ({ parameters := [Jvm.ClassFile.FieldType.int, Jvm.ClassFile.FieldType.int], returnType := (Option.none : Option Jvm.ClassFile.FieldType) } : Jvm.ClassFile.MethodDescriptor), implItf := false, inst := ({ parameters := [Jvm.ClassFile.FieldType.int, Jvm.ClassFile.FieldType.int], returnType := (Option.none : Option Jvm.ClassFile.FieldType) } : Jvm.ClassFile.MethodDescriptor) } : Jvm.Lambda.Shape)
def zSg17 : Lambda.Shape := ({ iface := "TrailGuide$Change", name := "applyTo", sam := ({ parameters := [(Jvm.ClassFile.FieldType.object "TrailGuide$State")], returnType := (Option.some Jvm.ClassFile.FieldType.int) } : Jvm.ClassFile.MethodDescriptor), captured := [Jvm.ClassFile.FieldType.int, Jvm.ClassFile.FieldType.int, Jvm.ClassFile.FieldType.int], kind := 6, implClass := "TrailGuide$Parser", implName := "lambda$pointed$0", implDesc := ({ parameters := [Jvm.ClassFile.FieldType.int, Jvm.ClassFile.FieldType.int, Jvm.ClassFile.FieldType.int, (Jvm.ClassFile.FieldType.object "TrailGuide$State")], returnType := (Option.some Jvm.ClassFile.FieldType.int) } : Jvm.ClassFile.MethodDescriptor), implItf := false, inst := ({ parameters := [(Jvm.ClassFile.FieldType.object "TrailGuide$State")], returnType := (Option.some Jvm.ClassFile.FieldType.int) } : Jvm.ClassFile.MethodDescriptor) } : Jvm.Lambda.Shape)
def zSg18 : Lambda.Shape := ({ iface := "TrailGuide$Change", name := "applyTo", sam := ({ parameters := [(Jvm.ClassFile.FieldType.object "TrailGuide$State")], returnType := (Option.some Jvm.ClassFile.FieldType.int) } : Jvm.ClassFile.MethodDescriptor), captured := [Jvm.ClassFile.FieldType.int, Jvm.ClassFile.FieldType.int, Jvm.ClassFile.FieldType.int], kind := 6, implClass := "TrailGuide$Parser", implName := "lambda$trailOrTour$1", implDesc := ({ parameters := [Jvm.ClassFile.FieldType.int, Jvm.ClassFile.FieldType.int, Jvm.ClassFile.FieldType.int, (Jvm.ClassFile.FieldType.object "TrailGuide$State")], returnType := (Option.some Jvm.ClassFile.FieldType.int) } : Jvm.ClassFile.MethodDescriptor), implItf := false, inst := ({ parameters := [(Jvm.ClassFile.FieldType.object "TrailGuide$State")], returnType := (Option.some Jvm.ClassFile.FieldType.int) } : Jvm.ClassFile.MethodDescriptor) } : Jvm.Lambda.Shape)
def zSg19 : Lambda.Shape := ({ iface := "TrailGuide$Change", name := "applyTo", sam := ({ parameters := [(Jvm.ClassFile.FieldType.object "TrailGuide$State")], returnType := (Option.some Jvm.ClassFile.FieldType.int) } : Jvm.ClassFile.MethodDescriptor), captured := [Jvm.ClassFile.FieldType.int, Jvm.ClassFile.FieldType.int], kind := 6, implClass := "TrailGuide$Parser", implName := "lambda$trailOrTour$2", implDesc := ({ parameters := [Jvm.ClassFile.FieldType.int, Jvm.ClassFile.FieldType.int, (Jvm.ClassFile.FieldType.object "TrailGuide$State")], returnType := (Option.some Jvm.ClassFile.FieldType.int) } : Jvm.ClassFile.MethodDescriptor), implItf := false, inst := ({ parameters := [(Jvm.ClassFile.FieldType.object "TrailGuide$State")], returnType := (Option.some Jvm.ClassFile.FieldType.int) } : Jvm.ClassFile.MethodDescriptor) } : Jvm.Lambda.Shape)
def zSg20 : Lambda.Shape := ({ iface := "TrailGuide$Change", name := "applyTo", sam := ({ parameters := [(Jvm.ClassFile.FieldType.object "TrailGuide$State")], returnType := (Option.some Jvm.ClassFile.FieldType.int) } : Jvm.ClassFile.MethodDescriptor), captured := [Jvm.ClassFile.FieldType.int, Jvm.ClassFile.FieldType.int], kind := 6, implClass := "TrailGuide$Parser", implName := "lambda$cutOrCharge$3", implDesc := ({ parameters := [Jvm.ClassFile.FieldType.int, Jvm.ClassFile.FieldType.int, (Jvm.ClassFile.FieldType.object "TrailGuide$State")], returnType := (Option.some Jvm.ClassFile.FieldType.int) } : Jvm.ClassFile.MethodDescriptor), implItf := false, inst := ({ parameters := [(Jvm.ClassFile.FieldType.object "TrailGuide$State")], returnType := (Option.some Jvm.ClassFile.FieldType.int) } : Jvm.ClassFile.MethodDescriptor) } : Jvm.Lambda.Shape)
def zSg21 : Lambda.Shape := ({ iface := "TrailGuide$Change", name := "applyTo", sam := ({ parameters := [(Jvm.ClassFile.FieldType.object "TrailGuide$State")], returnType := (Option.some Jvm.ClassFile.FieldType.int) } : Jvm.ClassFile.MethodDescriptor), captured := [Jvm.ClassFile.FieldType.int], kind := 6, implClass := "TrailGuide$Parser", implName := "lambda$cutOrCharge$4", implDesc := ({ parameters := [Jvm.ClassFile.FieldType.int, (Jvm.ClassFile.FieldType.object "TrailGuide$State")], returnType := (Option.some Jvm.ClassFile.FieldType.int) } : Jvm.ClassFile.MethodDescriptor), implItf := false, inst := ({ parameters := [(Jvm.ClassFile.FieldType.object "TrailGuide$State")], returnType := (Option.some Jvm.ClassFile.FieldType.int) } : Jvm.ClassFile.MethodDescriptor) } : Jvm.Lambda.Shape)
def zSg22 : Lambda.Shape := ({ iface := "TrailGuide$Change", name := "applyTo", sam := ({ parameters := [(Jvm.ClassFile.FieldType.object "TrailGuide$State")], returnType := (Option.some Jvm.ClassFile.FieldType.int) } : Jvm.ClassFile.MethodDescriptor), captured := [Jvm.ClassFile.FieldType.int], kind := 6, implClass := "TrailGuide$Parser", implName := "lambda$modeOrMove$5", implDesc := ({ parameters := [Jvm.ClassFile.FieldType.int, (Jvm.ClassFile.FieldType.object "TrailGuide$State")], returnType := (Option.some Jvm.ClassFile.FieldType.int) } : Jvm.ClassFile.MethodDescriptor), implItf := false, inst := ({ parameters := [(Jvm.ClassFile.FieldType.object "TrailGuide$State")], returnType := (Option.some Jvm.ClassFile.FieldType.int) } : Jvm.ClassFile.MethodDescriptor) } : Jvm.Lambda.Shape)
def zSg23 : Lambda.Shape := ({ iface := "TrailGuide$Change", name := "applyTo", sam := ({ parameters := [(Jvm.ClassFile.FieldType.object "TrailGuide$State")], returnType := (Option.some Jvm.ClassFile.FieldType.int) } : Jvm.ClassFile.MethodDescriptor), captured := [Jvm.ClassFile.FieldType.int, Jvm.ClassFile.FieldType.int], kind := 6, implClass := "TrailGuide$Parser", implName := "lambda$modeOrMove$6", implDesc := ({ parameters := [Jvm.ClassFile.FieldType.int, Jvm.ClassFile.FieldType.int, (Jvm.ClassFile.FieldType.object "TrailGuide$State")], returnType := (Option.some Jvm.ClassFile.FieldType.int) } : Jvm.ClassFile.MethodDescriptor), implItf := false, inst := ({ parameters := [(Jvm.ClassFile.FieldType.object "TrailGuide$State")], returnType := (Option.some Jvm.ClassFile.FieldType.int) } : Jvm.ClassFile.MethodDescriptor) } : Jvm.Lambda.Shape)
def zSg24 : Lambda.Shape := ({ iface := "TrailGuide$Change", name := "applyTo", sam := ({ parameters := [(Jvm.ClassFile.FieldType.object "TrailGuide$State")], returnType := (Option.some Jvm.ClassFile.FieldType.int) } : Jvm.ClassFile.MethodDescriptor), captured := [Jvm.ClassFile.FieldType.int], kind := 6, implClass := "TrailGuide$Parser", implName := "lambda$limited$7", implDesc := ({ parameters := [Jvm.ClassFile.FieldType.int, (Jvm.ClassFile.FieldType.object "TrailGuide$State")], returnType := (Option.some Jvm.ClassFile.FieldType.int) } : Jvm.ClassFile.MethodDescriptor), implItf := false, inst := ({ parameters := [(Jvm.ClassFile.FieldType.object "TrailGuide$State")], returnType := (Option.some Jvm.ClassFile.FieldType.int) } : Jvm.ClassFile.MethodDescriptor) } : Jvm.Lambda.Shape)
def zSg25 : Lambda.Shape := ({ iface := "TrailGuide$Change", name := "applyTo", sam := ({ parameters := [(Jvm.ClassFile.FieldType.object "TrailGuide$State")], returnType := (Option.some Jvm.ClassFile.FieldType.int) } : Jvm.ClassFile.MethodDescriptor), captured := [], kind := 6, implClass := "TrailGuide$Parser", implName := "lambda$stopped$8", implDesc := ({ parameters := [(Jvm.ClassFile.FieldType.object "TrailGuide$State")], returnType := (Option.some Jvm.ClassFile.FieldType.int) } : Jvm.ClassFile.MethodDescriptor), implItf := false, inst := ({ parameters := [(Jvm.ClassFile.FieldType.object "TrailGuide$State")], returnType := (Option.some Jvm.ClassFile.FieldType.int) } : Jvm.ClassFile.MethodDescriptor) } : Jvm.Lambda.Shape)
/-- the sites of lambdas: method, pc, index, shape (class number 1000 + place) -/
def zLs : List (MethodName × Nat × Nat × Lambda.Shape) := [(⟨"TrailGuide$State", "components", "()I"⟩, 9, 125, zSg1), (⟨"TrailGuide$State", "components", "()I"⟩, 34, 132, zSg2), (⟨"TrailGuide$State", "distancesFrom", "(I)[I"⟩, 37, 105, zSg3), (⟨"TrailGuide$State", "distancesByRelaxation", "(I)[I"⟩, 47, 120, zSg4), (⟨"TrailGuide", "haveEqualDistances", "(I)Z"⟩, 24, 285, zSg5), (⟨"TrailGuide", "addWaypoint", "(III)I"⟩, 4, 113, zSg6), (⟨"TrailGuide", "addTrail", "(III)I"⟩, 4, 120, zSg7), (⟨"TrailGuide", "removeTrail", "(II)I"⟩, 3, 121, zSg8), (⟨"TrailGuide", "startTour", "(II)I"⟩, 3, 124, zSg9), (⟨"TrailGuide$State", "successor", "(I[I)I"⟩, 4, 179, zSg10), (⟨"TrailGuide", "stopTour", "()I"⟩, 1, 125, zSg11), (⟨"TrailGuide", "update", "(II)Z"⟩, 3, 128, zSg12), (⟨"TrailGuide", "setTolerance", "(I)I"⟩, 2, 129, zSg13), (⟨"TrailGuide", "setMode", "(I)I"⟩, 2, 132, zSg14), (⟨"TrailGuide", "charge", "(I)I"⟩, 2, 133, zSg15), (⟨"TrailGuide", "writeTrails", "(I)I"⟩, 25, 332, zSg16), (⟨"TrailGuide$Parser", "pointed", "()LTrailGuide$Command;"⟩, 32, 94, zSg17), (⟨"TrailGuide$Parser", "trailOrTour", "()LTrailGuide$Command;"⟩, 37, 107, zSg18), (⟨"TrailGuide$Parser", "trailOrTour", "()LTrailGuide$Command;"⟩, 66, 112, zSg19), (⟨"TrailGuide$Parser", "cutOrCharge", "()LTrailGuide$Command;"⟩, 29, 117, zSg20), (⟨"TrailGuide$Parser", "cutOrCharge", "()LTrailGuide$Command;"⟩, 50, 120, zSg21), (⟨"TrailGuide$Parser", "modeOrMove", "()LTrailGuide$Command;"⟩, 31, 130, zSg22), (⟨"TrailGuide$Parser", "modeOrMove", "()LTrailGuide$Command;"⟩, 60, 133, zSg23), (⟨"TrailGuide$Parser", "limited", "()LTrailGuide$Command;"⟩, 12, 136, zSg24), (⟨"TrailGuide$Parser", "stopped", "()LTrailGuide$Command;"⟩, 10, 139, zSg25)]
def zA (G : State) : Nat → Prop := fun q => G.heap.size ≤ q
def zC (G : State) (ci : Nat) : ClassId := match zCl[ci]? with
  | some q => (G.vm.findClass q.1).getD 0
  | none => match zLs[ci - 1000]? with
    | some q => ((G.lambdaAt? q.1 q.2.1 q.2.2.1 q.2.2.2).map (fun w => w.1)).getD 0
    | none => 0
def zI (G : State) (ci k : Nat) : Nat := match zCl[ci]? with
  | some q => match G.fieldFound? (q.2.1 k).1 (q.2.1 k).2.1 (q.2.1 k).2.2.1 with
    | some w => w.2.2.2.slot
    | none => 0
  | none => k
def zN (ci : Nat) : Nat := match zCl[ci]? with
  | some q => q.2.2
  | none => 1000
def zAt (G : State) (a : Nat) (o : zO) (H : Heap) : Prop := ∃ cell : Cell, H[a]? = some cell ∧ cell.vm = .none ∧ match o with
  | .inl (ci, fs) => cell.cls = zC G ci ∧ fs.length ≤ zN ci ∧ ∀ (k : Nat) (v : Value), fs[k]? = some v → cell.slots[zI G ci k]? = some v
  | .inr (ty, n, f) => (ArrOfT G cell.cls ty ∧ va_RA G cell.cls ty) ∧ cell.slots.size = n ∧ ∀ j : Nat, j < n → cell.slots[j]? = some (f j)
def zRep (G : State) (ah : zH) (H : Heap) : Prop := ∀ (a : Nat) (o : zO), ah a = some o → G.heap.size ≤ a ∧ zAt G a o H
theorem zRep.lt {G : State} {ah : zH} {H : Heap} (h : zRep G ah H) {a : Nat} {o : zO} (ha : ah a = some o) : a < H.size := by
  obtain ⟨-, cell, hc, -⟩ := h a o ha
  exact (Array.getElem?_eq_some_iff.mp hc).1
/-- another heap, alike at the known places, but for one -/
theorem zRep.upd {G : State} {ah : zH} {H H' : Heap} (h : zRep G ah H) {a : Nat} {o : zO} (hB : G.heap.size ≤ a) (ho : zAt G a o H') (hk : ∀ q, q ≠ a → q < H.size → H'[q]? = H[q]?) : zRep G (z_up ah a o) H' := by
  intro b x hb
  by_cases e : b = a
  · subst e
    rw [z_up_s] at hb
    cases hb
    exact ⟨hB, ho⟩
  · rw [z_up_n e] at hb
    obtain ⟨h1, cell, h2, h3⟩ := h b x hb
    exact ⟨h1, cell, by rw [hk b e (Array.getElem?_eq_some_iff.mp h2).1]; exact h2, h3⟩
theorem zRep.kept {G : State} {ah : zH} {H H' : Heap} (h : zRep G ah H) (hk : ∀ q, q < H.size → H'[q]? = H[q]?) : zRep G ah H' := by
  intro b x hb
  obtain ⟨h1, cell, h2, h3⟩ := h b x hb
  exact ⟨h1, cell, by rw [hk b (Array.getElem?_eq_some_iff.mp h2).1]; exact h2, h3⟩
/-- what the entry of the law gives: every word of the tables, and the premises read off a JVM -/
def zTb (G : State) : Prop := ∃ A0 : Array Value, (∀ w ∈ lw_tbl, w.before A0 G = true) ∧ (Jvm.Cond.and given_1 narrow_1).before A0 G = true
/-- a state of the law's run: tables warmer than at the law's entry; nothing old changed -/
def zWo (G s : State) : Prop := G.WarmedH s.vm ∧ G.heap.size ≤ s.heap.size ∧ ∀ q : Nat, q < G.heap.size → s.heap[q]? = G.heap[q]?
def zCx (G : State) (M : zMd) (p : Program) (l : Launch) (s : State) (m : MethodId) (meth : Method) (c : Code) : Prop :=
  p.tables.exec = Jvm.exec ∧ l.stackTraces = false ∧ c.code = M.2.1 ∧ c.maxLocals = M.2.2.1 ∧ s.methodNamed? M.1 = some m ∧ meth.sig.returnType = M.2.2.2.1 ∧ meth.locks = false ∧
  c.exceptionTable.toList = tableOf M.2.2.2.2 ∧ zTb G ∧ zWo G s ∧ s.vm.findClass M.1.cls = some m.cls ∧ meth.name = M.1.name
/-- the known locals as places -/
def zas : Nat → List (Option Value) → List (Nat × Value)
  | _, [] => []
  | i, none :: r => zas (i + 1) r
  | i, some v :: r => (i, v) :: zas (i + 1) r
theorem zas_mem {q : Nat × Value} : ∀ (ls : List (Option Value)) (i : Nat), q ∈ zas i ls ↔ i ≤ q.1 ∧ ls[q.1 - i]? = some (some q.2) := by
  intro ls
  induction ls with
  | nil => intro i; simp [zas]
  | cons x r ih =>
    intro i
    cases x with
    | none =>
      simp only [zas, ih (i + 1)]
      constructor
      · rintro ⟨h1, h2⟩
        refine ⟨by omega, ?_⟩
        rw [show q.1 - i = (q.1 - (i + 1)) + 1 by omega, List.getElem?_cons_succ]
        exact h2
      · rintro ⟨h1, h2⟩
        rcases Nat.lt_or_ge i q.1 with h3 | h3
        · rw [show q.1 - i = (q.1 - (i + 1)) + 1 by omega, List.getElem?_cons_succ] at h2
          exact ⟨by omega, h2⟩
        · rw [show q.1 - i = 0 by omega] at h2
          simp at h2
    | some v =>
      simp only [zas, List.mem_cons, ih (i + 1)]
      constructor
      · rintro (h | ⟨h1, h2⟩)
        · subst h
          simp
        · refine ⟨by omega, ?_⟩
          rw [show q.1 - i = (q.1 - (i + 1)) + 1 by omega, List.getElem?_cons_succ]
          exact h2
      · rintro ⟨h1, h2⟩
        rcases Nat.lt_or_ge i q.1 with h3 | h3
        · rw [show q.1 - i = (q.1 - (i + 1)) + 1 by omega, List.getElem?_cons_succ] at h2
          exact Or.inr ⟨by omega, h2⟩
        · rw [show q.1 - i = 0 by omega] at h2
          simp only [List.getElem?_cons_zero, Option.some.injEq] at h2
          exact Or.inl (Prod.ext (by omega) h2.symm)
def zLoc (L : Array Slot) (n : Nat) (ls : List (Option Value)) : Prop := lv_has L n (zas 0 ls)
theorem zLoc.at' {L : Array Slot} {n : Nat} {ls : List (Option Value)} (h : zLoc L n ls) {i : Nat} {v : Value} (hv : ls[i]? = some (some v)) : L[i]? = some (.val v) :=
  h.2.2 (i, v) ((zas_mem ls 0).mpr ⟨Nat.zero_le _, by simpa using hv⟩)
/-- is this known to be a value of two words? -/
def z_c2 : Option (Option Value) → Bool
  | some (some (.long _)) => true
  | some (some (.double _)) => true
  | _ => false
/-- what stands below place i falls, if it reaches into it -/
def z_cut (ls : List (Option Value)) (i : Nat) : List (Option Value) := match i with
  | 0 => ls
  | j + 1 => match z_c2 ls[j]? with
    | true => ls.set j none
    | false => ls
def z_st1 (ls : List (Option Value)) (i : Nat) (v : Value) : List (Option Value) := (z_cut ls i).set i (some v)
def z_st2 (ls : List (Option Value)) (i : Nat) (v : Value) : List (Option Value) := ((z_cut ls i).set i (some v)).set (i + 1) none
theorem z_c2_of {v : Value} (h : v.category = 2) : z_c2 (some (some v)) = true := by cases v <;> simp [Value.category, z_c2] at h ⊢
theorem z_cut_get {ls : List (Option Value)} {i j : Nat} {v : Value} (h : (z_cut ls i)[j]? = some (some v)) : ls[j]? = some (some v) ∧ ¬ (j + 1 = i ∧ v.category = 2) := by
  unfold z_cut at h
  cases i with
  | zero => exact ⟨h, by omega⟩
  | succ i =>
    cases hc : z_c2 ls[i]? with
    | true =>
      simp only [hc] at h
      by_cases e : j = i
      · subst e
        rw [List.getElem?_set] at h
        simp at h
      · rw [List.getElem?_set_ne (Ne.symm e)] at h
        exact ⟨h, by omega⟩
    | false =>
      simp only [hc] at h
      refine ⟨h, ?_⟩
      rintro ⟨e1, e2⟩
      obtain rfl : j = i := by omega
      rw [h, z_c2_of e2] at hc
      cases hc
theorem zLoc.mem {ls ls' : List (Option Value)} {q : Nat × Value} (f : q ∈ zas 0 ls') (h : ∀ v, ls'[q.1]? = some (some v) → ls[q.1]? = some (some v)) : q ∈ zas 0 ls :=
  (zas_mem ls 0).mpr ⟨Nat.zero_le _, by have := ((zas_mem ls' 0).mp f).2; simp only [Nat.sub_zero] at this ⊢; exact h _ this⟩
theorem zLoc.st1 {ls : List (Option Value)} {i : Nat} {v : Value} {q : Nat × Value} (hq : q ∈ zas 0 (z_st1 ls i v)) : q ∈ (i, v) :: (zas 0 ls).filter (fun q => !(q.1 == i) && !(q.1 + 1 == i && q.2.category == 2)) := by
  have h2 := ((zas_mem _ 0).mp hq).2
  rw [Nat.sub_zero, z_st1, List.getElem?_set] at h2
  by_cases e : i = q.1
  · rw [if_pos e] at h2
    split at h2
    · cases h2
      exact List.mem_cons.mpr (Or.inl (Prod.ext e.symm rfl))
    · cases h2
  · rw [if_neg e] at h2
    obtain ⟨h3, h4⟩ := z_cut_get h2
    refine List.mem_cons.mpr (Or.inr (List.mem_filter.mpr ⟨(zas_mem ls 0).mpr ⟨Nat.zero_le _, by simpa using h3⟩, ?_⟩))
    simp only [Bool.and_eq_true, Bool.not_eq_true', beq_eq_false_iff_ne, ne_eq, Bool.and_eq_false_iff]
    refine ⟨fun z => e z.symm, ?_⟩
    by_cases z : q.1 + 1 = i
    · exact Or.inr (fun y => h4 ⟨z, y⟩)
    · exact Or.inl z
theorem zLoc.st2 {ls : List (Option Value)} {i : Nat} {v : Value} {q : Nat × Value} (hq : q ∈ zas 0 (z_st2 ls i v)) : q ∈ (i, v) :: (zas 0 ls).filter (fun q => !(q.1 == i) && (!(q.1 == i + 1) && !(q.1 + 1 == i && q.2.category == 2))) := by
  have h2 := ((zas_mem _ 0).mp hq).2
  rw [Nat.sub_zero, z_st2, List.getElem?_set] at h2
  by_cases e1 : i + 1 = q.1
  · rw [if_pos e1] at h2
    split at h2 <;> cases h2
  · rw [if_neg e1, List.getElem?_set] at h2
    by_cases e : i = q.1
    · rw [if_pos e] at h2
      split at h2
      · cases h2
        exact List.mem_cons.mpr (Or.inl (Prod.ext e.symm rfl))
      · cases h2
    · rw [if_neg e] at h2
      obtain ⟨h3, h4⟩ := z_cut_get h2
      refine List.mem_cons.mpr (Or.inr (List.mem_filter.mpr ⟨(zas_mem ls 0).mpr ⟨Nat.zero_le _, by simpa using h3⟩, ?_⟩))
      simp only [Bool.and_eq_true, Bool.not_eq_true', beq_eq_false_iff_ne, ne_eq, Bool.and_eq_false_iff]
      refine ⟨fun z => e z.symm, fun z => e1 z.symm, ?_⟩
      by_cases z : q.1 + 1 = i
      · exact Or.inr (fun y => h4 ⟨z, y⟩)
      · exact Or.inl z
theorem zLoc.sub {L : Array Slot} {n : Nat} {l : List (Nat × Value)} {ls : List (Option Value)} (h : lv_has L n l) (hs : ∀ q ∈ zas 0 ls, q ∈ l) : zLoc L n ls := ⟨h.1, h.2.1, fun q hq => h.2.2 q (hs q hq)⟩
/-- the end that is owed -/
def zQ (G : State) (Q : zRs → zH → Prop) (mc ms : Nat) : Array Value → State → Outcome → State → Prop := fun _ st o t =>
  (∃ (v : Option Value) (ah : zH), o = .returned v ∧ Q (.inl v) ah ∧ zRep G ah t.heap ∧ va_F (zA G) st t ∧ ∃ L, FrameEnd st o t L mc ms ∧ ∀ q ∈ L, zA G q.base) ∨
  (∃ (q : Addr) (E : String) (ce : Cell) (ah : zH), o = .threw q ∧ Q (.inr (E, q)) ah ∧ zRep G ah t.heap ∧ va_F (zA G) st t ∧ (t.heap[q]? = some ce ∧ ce.vm = .none ∧ st.vm.findClass E = some ce.cls) ∧
    st.WarmedH t.vm ∧ ∃ L, st.sameButNew ({ t with vm := st.vm } : State) L mc ms ∧ ∀ z ∈ L, zA G z.base)
def zEnd (G : State) (below : List Frame) (args : Array Value) (s : State) (R : Room) (Q : zRs → zH → Prop) : State → Prop := fun t =>
  ∃ o, t.status = .running ∧ Ended t below o ∧ zQ G Q R.cells R.slots args s o t
/-- the room: d frames, rc cells of rs slots are left -/
def zRm (R : Room) (cells slots d rc rs : Nat) : Prop := d ≤ R.frames ∧ 128 * d ≤ R.locals ∧ cells + rc ≤ R.cells ∧ slots + rs ≤ R.slots
/-- from pc with these locals, this stack, this heap, the method comes to an end with Q -/
def zW (G : State) (M : zMd) (d rc rs pc : Nat) (ls : List (Option Value)) (st : List Value) (ah : zH) (Q : zRs → zH → Prop) : Prop :=
  ∀ (p : Program) (l : Launch) (e : Env) (R : Room) (s : State) (m : MethodId) (args : Array Value) (below : List Frame) (meth : Method) (c : Code) (H : Heap) (locs : List Loc) (cells slots : Nat),
    zCx G M p l s m meth c → zRm R cells slots d rc rs → zRep G ah H → va_S (zA G) s.heap H locs → ∀ L : Array Slot, zLoc L M.2.2.1 ls →
      W p l e R s m args below meth c H locs cells slots (zEnd G below args s R Q) (F0 m pc L st)
/-- the same, where q of class E was thrown at pc -/
def zX (G : State) (M : zMd) (d rc rs pc : Nat) (ls : List (Option Value)) (E : String) (q : Nat) (ah : zH) (Q : zRs → zH → Prop) : Prop :=
  ∀ (p : Program) (l : Launch) (e : Env) (R : Room) (s : State) (m : MethodId) (args : Array Value) (below : List Frame) (meth : Method) (c : Code) (H : Heap) (locs : List Loc) (cells slots : Nat),
    zCx G M p l s m meth c → zRm R cells slots d rc rs → zRep G ah H → va_S (zA G) s.heap H locs → (∃ ce : Cell, H[q]? = some ce ∧ ce.vm = .none ∧ s.vm.findClass E = some ce.cls) → ∀ L : Array Slot, zLoc L M.2.2.1 ls → ∀ st : List Value,
      vx_W p l e R s m args below meth c H locs cells slots (zEnd G below args s R Q) (F0 m pc L st) q
