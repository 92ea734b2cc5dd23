set_option maxRecDepth 100000
/-! ===== call rows by the number of arguments ===== -/
theorem sp89 : Cond.selects "TrailGuideModel" ⟨"TrailGuideModel", "does", "(I)I"⟩ ⟨"TrailGuideModel", "does", "(I)I"⟩ ∈ lw_all := lw_w 89 rfl rfl
theorem sp88 : Cond.selects "TrailGuideModel" ⟨"TrailGuideModel", "isMode", "(I)Z"⟩ ⟨"TrailGuideModel", "isMode", "(I)Z"⟩ ∈ lw_all := lw_w 88 rfl rfl
theorem sp87 : Cond.selects "TrailGuideModel" ⟨"TrailGuideModel", "readsM", "(I)Z"⟩ ⟨"TrailGuideModel", "readsM", "(I)Z"⟩ ∈ lw_all := lw_w 87 rfl rfl
theorem sp86 : Cond.selects "TrailGuideModel" ⟨"TrailGuideModel", "readsC", "(I)Z"⟩ ⟨"TrailGuideModel", "readsC", "(I)Z"⟩ ∈ lw_all := lw_w 86 rfl rfl
theorem sp85 : Cond.selects "TrailGuideModel" ⟨"TrailGuideModel", "readsT", "(I)Z"⟩ ⟨"TrailGuideModel", "readsT", "(I)Z"⟩ ∈ lw_all := lw_w 85 rfl rfl
theorem sp84 : Cond.selects "TrailGuideModel" ⟨"TrailGuideModel", "isNumber", "(II)Z"⟩ ⟨"TrailGuideModel", "isNumber", "(II)Z"⟩ ∈ lw_all := lw_w 84 rfl rfl
theorem sp83 : Cond.selects "TrailGuideModel" ⟨"TrailGuideModel", "isPair", "(II)Z"⟩ ⟨"TrailGuideModel", "isPair", "(II)Z"⟩ ∈ lw_all := lw_w 83 rfl rfl
theorem sp82 : Cond.selects "TrailGuideModel" ⟨"TrailGuideModel", "isSign", "(I)Z"⟩ ⟨"TrailGuideModel", "isSign", "(I)Z"⟩ ∈ lw_all := lw_w 82 rfl rfl
theorem sp81 : Cond.selects "TrailGuideModel" ⟨"TrailGuideModel", "isWord", "(Ljava/lang/String;)Z"⟩ ⟨"TrailGuideModel", "isWord", "(Ljava/lang/String;)Z"⟩ ∈ lw_all := lw_w 81 rfl rfl
theorem sp80 : Cond.selects "TrailGuideModel" ⟨"TrailGuideModel", "readsRest", "(II)Z"⟩ ⟨"TrailGuideModel", "readsRest", "(II)Z"⟩ ∈ lw_all := lw_w 80 rfl rfl
theorem sp79 : Cond.selects "TrailGuideModel" ⟨"TrailGuideModel", "sign", "()I"⟩ ⟨"TrailGuideModel", "sign", "()I"⟩ ∈ lw_all := lw_w 79 rfl rfl
theorem sp78 : Cond.selects "TrailGuideModel" ⟨"TrailGuideModel", "readsCommand", "()Z"⟩ ⟨"TrailGuideModel", "readsCommand", "()Z"⟩ ∈ lw_all := lw_w 78 rfl rfl
theorem sp77 : Cond.selects "TrailGuideModel" ⟨"TrailGuideModel", "isProgram", "()Z"⟩ ⟨"TrailGuideModel", "isProgram", "()Z"⟩ ∈ lw_all := lw_w 77 rfl rfl
theorem sp76 : Cond.selects "TrailGuideModel" ⟨"TrailGuideModel", "number", "(I)V"⟩ ⟨"TrailGuideModel", "number", "(I)V"⟩ ∈ lw_all := lw_w 76 rfl rfl
theorem sp75 : Cond.selects "TrailGuideModel" ⟨"TrailGuideModel", "puts", "(I)V"⟩ ⟨"TrailGuideModel", "puts", "(I)V"⟩ ∈ lw_all := lw_w 75 rfl rfl
theorem sp74 : Cond.selects "TrailGuideModel" ⟨"TrailGuideModel", "isBeyond", "(III)Z"⟩ ⟨"TrailGuideModel", "isBeyond", "(III)Z"⟩ ∈ lw_all := lw_w 74 rfl rfl
theorem sp73 : Cond.selects "TrailGuideModel" ⟨"TrailGuideModel", "turnAt", "(I)I"⟩ ⟨"TrailGuideModel", "turnAt", "(I)I"⟩ ∈ lw_all := lw_w 73 rfl rfl
theorem sp72 : Cond.selects "TrailGuideModel" ⟨"TrailGuideModel", "isNoIndex", "(I)Z"⟩ ⟨"TrailGuideModel", "isNoIndex", "(I)Z"⟩ ∈ lw_all := lw_w 72 rfl rfl
theorem sp71 : Cond.selects "TrailGuideModel" ⟨"TrailGuideModel", "ofTour", "(I)I"⟩ ⟨"TrailGuideModel", "ofTour", "(I)I"⟩ ∈ lw_all := lw_w 71 rfl rfl
theorem sp70 : Cond.selects "TrailGuideModel" ⟨"TrailGuideModel", "away", "(III)I"⟩ ⟨"TrailGuideModel", "away", "(III)I"⟩ ∈ lw_all := lw_w 70 rfl rfl
theorem sp69 : Cond.selects "TrailGuideModel" ⟨"TrailGuideModel", "ofPoint", "(II)I"⟩ ⟨"TrailGuideModel", "ofPoint", "(II)I"⟩ ∈ lw_all := lw_w 69 rfl rfl
theorem sp68 : Cond.selects "TrailGuideModel" ⟨"TrailGuideModel", "charges", "(I)I"⟩ ⟨"TrailGuideModel", "charges", "(I)I"⟩ ∈ lw_all := lw_w 68 rfl rfl
theorem sp67 : Cond.selects "TrailGuideModel" ⟨"TrailGuideModel", "tells", "(IIII)I"⟩ ⟨"TrailGuideModel", "tells", "(IIII)I"⟩ ∈ lw_all := lw_w 67 rfl rfl
theorem sp66 : Cond.selects "TrailGuideModel" ⟨"TrailGuideModel", "compared", "(III)I"⟩ ⟨"TrailGuideModel", "compared", "(III)I"⟩ ∈ lw_all := lw_w 66 rfl rfl
theorem sp65 : Cond.selects "TrailGuideModel" ⟨"TrailGuideModel", "isWithin", "(III)Z"⟩ ⟨"TrailGuideModel", "isWithin", "(III)Z"⟩ ∈ lw_all := lw_w 65 rfl rfl
theorem sp64 : Cond.selects "TrailGuideModel" ⟨"TrailGuideModel", "watches", "()V"⟩ ⟨"TrailGuideModel", "watches", "()V"⟩ ∈ lw_all := lw_w 64 rfl rfl
theorem sp63 : Cond.selects "TrailGuideModel" ⟨"TrailGuideModel", "aim", "()I"⟩ ⟨"TrailGuideModel", "aim", "()I"⟩ ∈ lw_all := lw_w 63 rfl rfl
theorem sp62 : Cond.selects "TrailGuideModel" ⟨"TrailGuideModel", "reaches", "(II)Z"⟩ ⟨"TrailGuideModel", "reaches", "(II)Z"⟩ ∈ lw_all := lw_w 62 rfl rfl
theorem sp61 : Cond.selects "TrailGuideModel" ⟨"TrailGuideModel", "drains", "(I)V"⟩ ⟨"TrailGuideModel", "drains", "(I)V"⟩ ∈ lw_all := lw_w 61 rfl rfl
theorem sp60 : Cond.selects "TrailGuideModel" ⟨"TrailGuideModel", "updated", "(II)I"⟩ ⟨"TrailGuideModel", "updated", "(II)I"⟩ ∈ lw_all := lw_w 60 rfl rfl
theorem sp59 : Cond.selects "TrailGuideModel" ⟨"TrailGuideModel", "over", "()V"⟩ ⟨"TrailGuideModel", "over", "()V"⟩ ∈ lw_all := lw_w 59 rfl rfl
theorem sp58 : Cond.selects "TrailGuideModel" ⟨"TrailGuideModel", "stops", "()I"⟩ ⟨"TrailGuideModel", "stops", "()I"⟩ ∈ lw_all := lw_w 58 rfl rfl
theorem sp57 : Cond.selects "TrailGuideModel" ⟨"TrailGuideModel", "of", "(II)I"⟩ ⟨"TrailGuideModel", "of", "(II)I"⟩ ∈ lw_all := lw_w 57 rfl rfl
theorem sp56 : Cond.selects "TrailGuideModel" ⟨"TrailGuideModel", "following", "(I)I"⟩ ⟨"TrailGuideModel", "following", "(I)I"⟩ ∈ lw_all := lw_w 56 rfl rfl
theorem sp55 : Cond.selects "TrailGuideModel" ⟨"TrailGuideModel", "finds", "(I)V"⟩ ⟨"TrailGuideModel", "finds", "(I)V"⟩ ∈ lw_all := lw_w 55 rfl rfl
theorem sp54 : Cond.selects "TrailGuideModel" ⟨"TrailGuideModel", "isOnTour", "()Z"⟩ ⟨"TrailGuideModel", "isOnTour", "()Z"⟩ ∈ lw_all := lw_w 54 rfl rfl
theorem sp53 : Cond.selects "TrailGuideModel" ⟨"TrailGuideModel", "tours", "(II)I"⟩ ⟨"TrailGuideModel", "tours", "(II)I"⟩ ∈ lw_all := lw_w 53 rfl rfl
theorem sp52 : Cond.selects "TrailGuideModel" ⟨"TrailGuideModel", "cuts", "(II)I"⟩ ⟨"TrailGuideModel", "cuts", "(II)I"⟩ ∈ lw_all := lw_w 52 rfl rfl
theorem sp51 : Cond.selects "TrailGuideModel" ⟨"TrailGuideModel", "manyTrails", "()I"⟩ ⟨"TrailGuideModel", "manyTrails", "()I"⟩ ∈ lw_all := lw_w 51 rfl rfl
theorem sp50 : Cond.selects "TrailGuideModel" ⟨"TrailGuideModel", "setsTrail", "(III)V"⟩ ⟨"TrailGuideModel", "setsTrail", "(III)V"⟩ ∈ lw_all := lw_w 50 rfl rfl
theorem sp49 : Cond.selects "TrailGuideModel" ⟨"TrailGuideModel", "trail", "(II)I"⟩ ⟨"TrailGuideModel", "trail", "(II)I"⟩ ∈ lw_all := lw_w 49 rfl rfl
theorem sp48 : Cond.selects "TrailGuideModel" ⟨"TrailGuideModel", "isPoint", "(I)Z"⟩ ⟨"TrailGuideModel", "isPoint", "(I)Z"⟩ ∈ lw_all := lw_w 48 rfl rfl
theorem sp47 : Cond.selects "TrailGuideModel" ⟨"TrailGuideModel", "joins", "(III)I"⟩ ⟨"TrailGuideModel", "joins", "(III)I"⟩ ∈ lw_all := lw_w 47 rfl rfl
theorem sp46 : Cond.selects "TrailGuideModel" ⟨"TrailGuideModel", "ends", "(I)I"⟩ ⟨"TrailGuideModel", "ends", "(I)I"⟩ ∈ lw_all := lw_w 46 rfl rfl
theorem sp45 : Cond.selects "TrailGuideModel" ⟨"TrailGuideModel", "isThrown", "(ZI)Z"⟩ ⟨"TrailGuideModel", "isThrown", "(ZI)Z"⟩ ∈ lw_all := lw_w 45 rfl rfl
theorem sp44 : Cond.selects "TrailGuideModel" ⟨"TrailGuideModel", "points", "(III)I"⟩ ⟨"TrailGuideModel", "points", "(III)I"⟩ ∈ lw_all := lw_w 44 rfl rfl
theorem sp43 : Cond.selects "TrailGuideModel" ⟨"TrailGuideModel", "keeps", "()V"⟩ ⟨"TrailGuideModel", "keeps", "()V"⟩ ∈ lw_all := lw_w 43 rfl rfl
theorem sp42 : Cond.selects "TrailGuide" ⟨"TrailGuide", "execute", "(Ljava/util/ArrayList;)I"⟩ ⟨"TrailGuide", "execute", "(Ljava/util/ArrayList;)I"⟩ ∈ lw_all := lw_w 42 rfl rfl
theorem sp41 : Cond.selects "TrailGuide$Parser" ⟨"TrailGuide$Parser", "stopped", "()LTrailGuide$Command;"⟩ ⟨"TrailGuide$Parser", "stopped", "()LTrailGuide$Command;"⟩ ∈ lw_all := lw_w 41 rfl rfl
theorem sp40 : Cond.selects "TrailGuide$Parser" ⟨"TrailGuide$Parser", "limited", "()LTrailGuide$Command;"⟩ ⟨"TrailGuide$Parser", "limited", "()LTrailGuide$Command;"⟩ ∈ lw_all := lw_w 40 rfl rfl
theorem sp39 : Cond.selects "TrailGuide$Parser" ⟨"TrailGuide$Parser", "mode", "()I"⟩ ⟨"TrailGuide$Parser", "mode", "()I"⟩ ∈ lw_all := lw_w 39 rfl rfl
theorem sp38 : Cond.selects "TrailGuide$Parser" ⟨"TrailGuide$Parser", "modeOrMove", "()LTrailGuide$Command;"⟩ ⟨"TrailGuide$Parser", "modeOrMove", "()LTrailGuide$Command;"⟩ ∈ lw_all := lw_w 38 rfl rfl
theorem sp37 : Cond.selects "TrailGuide$Parser" ⟨"TrailGuide$Parser", "cutOrCharge", "()LTrailGuide$Command;"⟩ ⟨"TrailGuide$Parser", "cutOrCharge", "()LTrailGuide$Command;"⟩ ∈ lw_all := lw_w 37 rfl rfl
theorem sp36 : Cond.selects "TrailGuide$Parser" ⟨"TrailGuide$Parser", "trailOrTour", "()LTrailGuide$Command;"⟩ ⟨"TrailGuide$Parser", "trailOrTour", "()LTrailGuide$Command;"⟩ ∈ lw_all := lw_w 36 rfl rfl
theorem sp35 : Cond.selects "TrailGuide$Parser" ⟨"TrailGuide$Parser", "isDigit", "()Z"⟩ ⟨"TrailGuide$Parser", "isDigit", "()Z"⟩ ∈ lw_all := lw_w 35 rfl rfl
theorem sp34 : Cond.selects "TrailGuide$Parser" ⟨"TrailGuide$Parser", "digit", "()I"⟩ ⟨"TrailGuide$Parser", "digit", "()I"⟩ ∈ lw_all := lw_w 34 rfl rfl
theorem sp33 : Cond.selects "TrailGuide$Parser" ⟨"TrailGuide$Parser", "number", "()I"⟩ ⟨"TrailGuide$Parser", "number", "()I"⟩ ∈ lw_all := lw_w 33 rfl rfl
theorem sp32 : Cond.selects "TrailGuide$Parser" ⟨"TrailGuide$Parser", "accept", "(C)Z"⟩ ⟨"TrailGuide$Parser", "accept", "(C)Z"⟩ ∈ lw_all := lw_w 32 rfl rfl
theorem sp31 : Cond.selects "TrailGuide$Parser" ⟨"TrailGuide$Parser", "expect", "(Ljava/lang/String;)V"⟩ ⟨"TrailGuide$Parser", "expect", "(Ljava/lang/String;)V"⟩ ∈ lw_all := lw_w 31 rfl rfl
theorem sp30 : Cond.selects "TrailGuide$Parser" ⟨"TrailGuide$Parser", "numberAfter", "(Ljava/lang/String;)I"⟩ ⟨"TrailGuide$Parser", "numberAfter", "(Ljava/lang/String;)I"⟩ ∈ lw_all := lw_w 30 rfl rfl
theorem sp29 : Cond.selects "TrailGuide$Parser" ⟨"TrailGuide$Parser", "pointed", "()LTrailGuide$Command;"⟩ ⟨"TrailGuide$Parser", "pointed", "()LTrailGuide$Command;"⟩ ∈ lw_all := lw_w 29 rfl rfl
theorem sp28 : Cond.selects "TrailGuide$Parser" ⟨"TrailGuide$Parser", "require", "(Z)V"⟩ ⟨"TrailGuide$Parser", "require", "(Z)V"⟩ ∈ lw_all := lw_w 28 rfl rfl
theorem sp27 : Cond.selects "TrailGuide$Parser" ⟨"TrailGuide$Parser", "peekAt", "(I)I"⟩ ⟨"TrailGuide$Parser", "peekAt", "(I)I"⟩ ∈ lw_all := lw_w 27 rfl rfl
theorem sp26 : Cond.selects "TrailGuide$Parser" ⟨"TrailGuide$Parser", "command", "()LTrailGuide$Command;"⟩ ⟨"TrailGuide$Parser", "command", "()LTrailGuide$Command;"⟩ ∈ lw_all := lw_w 26 rfl rfl
theorem sp25 : Cond.selects "TrailGuide" ⟨"TrailGuide", "writeTrail", "(II)V"⟩ ⟨"TrailGuide", "writeTrail", "(II)V"⟩ ∈ lw_all := lw_w 25 rfl rfl
theorem sp24 : Cond.selects "TrailGuide" ⟨"TrailGuide", "lambda$writeTrails$10", "(II)V"⟩ ⟨"TrailGuide", "lambda$writeTrails$10", "(II)V"⟩ ∈ lw_all := lw_w 24 rfl rfl
theorem sp23 : Cond.selects "TrailGuide$Square" ⟨"TrailGuide$Square", "isLessThan", "(J)Z"⟩ ⟨"TrailGuide$Square", "isLessThan", "(J)Z"⟩ ∈ lw_all := lw_w 23 rfl rfl
theorem sp22 : Cond.selects "TrailGuide" ⟨"TrailGuide", "tour", "()LTrailGuide$Tour;"⟩ ⟨"TrailGuide", "tour", "()LTrailGuide$Tour;"⟩ ∈ lw_all := lw_w 22 rfl rfl
theorem sp21 : Cond.selects "TrailGuide$State" ⟨"TrailGuide$State", "happen", "(LTrailGuide$Event;)V"⟩ ⟨"TrailGuide$State", "happen", "(LTrailGuide$Event;)V"⟩ ∈ lw_all := lw_w 21 rfl rfl
theorem sp20 : Cond.selects "TrailGuide$State" ⟨"TrailGuide$State", "driftEvent", "(LTrailGuide$Point;)LTrailGuide$Event;"⟩ ⟨"TrailGuide$State", "driftEvent", "(LTrailGuide$Point;)LTrailGuide$Event;"⟩ ∈ lw_all := lw_w 20 rfl rfl
theorem sp19 : Cond.selects "TrailGuide$State" ⟨"TrailGuide$State", "consume", "(I)V"⟩ ⟨"TrailGuide$State", "consume", "(I)V"⟩ ∈ lw_all := lw_w 19 rfl rfl
theorem sp18 : Cond.selects "TrailGuide$State" ⟨"TrailGuide$State", "endTour", "()V"⟩ ⟨"TrailGuide$State", "endTour", "()V"⟩ ∈ lw_all := lw_w 18 rfl rfl
theorem sp17 : Cond.selects "TrailGuide$State" ⟨"TrailGuide$State", "lambda$successor$4", "(I[II)Z"⟩ ⟨"TrailGuide$State", "lambda$successor$4", "(I[II)Z"⟩ ∈ lw_all := lw_w 17 rfl rfl
theorem sp16 : Cond.selects "TrailGuide$State" ⟨"TrailGuide$State", "successor", "(I[I)I"⟩ ⟨"TrailGuide$State", "successor", "(I[I)I"⟩ ∈ lw_all := lw_w 16 rfl rfl
theorem sp15 : Cond.selects "TrailGuide$State" ⟨"TrailGuide$State", "setLength", "(III)V"⟩ ⟨"TrailGuide$State", "setLength", "(III)V"⟩ ∈ lw_all := lw_w 15 rfl rfl
theorem sp14 : Cond.selects "java/util/ArrayDeque" ⟨"java/util/ArrayDeque", "newCapacity", "(II)I"⟩ ⟨"java/util/ArrayDeque", "newCapacity", "(II)I"⟩ ∈ lw_all := lw_w 14 rfl rfl
theorem sp13 : Cond.selects "java/util/ArrayDeque" ⟨"java/util/ArrayDeque", "grow", "(I)V"⟩ ⟨"java/util/ArrayDeque", "grow", "(I)V"⟩ ∈ lw_all := lw_w 13 rfl rfl
theorem sp12 : Cond.selects "TrailGuide" ⟨"TrailGuide", "commit", "(LTrailGuide$State;)V"⟩ ⟨"TrailGuide", "commit", "(LTrailGuide$State;)V"⟩ ∈ lw_all := lw_w 12 rfl rfl
theorem sp11 : Cond.selects "TrailGuide" ⟨"TrailGuide", "apply", "(LTrailGuide$Change;)I"⟩ ⟨"TrailGuide", "apply", "(LTrailGuide$Change;)I"⟩ ∈ lw_all := lw_w 11 rfl rfl
theorem sp10 : Cond.selects "java/util/ArrayList" ⟨"java/util/ArrayList", "grow", "()[Ljava/lang/Object;"⟩ ⟨"java/util/ArrayList", "grow", "()[Ljava/lang/Object;"⟩ ∈ lw_all := lw_w 10 rfl rfl
theorem sp9 : Cond.selects "java/util/ArrayList" ⟨"java/util/ArrayList", "add", "(Ljava/lang/Object;[Ljava/lang/Object;I)V"⟩ ⟨"java/util/ArrayList", "add", "(Ljava/lang/Object;[Ljava/lang/Object;I)V"⟩ ∈ lw_all := lw_w 9 rfl rfl
theorem sp8 : Cond.selects "java/util/ArrayList" ⟨"java/util/ArrayList", "grow", "(I)[Ljava/lang/Object;"⟩ ⟨"java/util/ArrayList", "grow", "(I)[Ljava/lang/Object;"⟩ ∈ lw_all := lw_w 8 rfl rfl
theorem sp7 : Cond.selects "java/util/ArrayDeque" ⟨"java/util/ArrayDeque", "toArray", "(Ljava/lang/Class;)[Ljava/lang/Object;"⟩ ⟨"java/util/ArrayDeque", "toArray", "(Ljava/lang/Class;)[Ljava/lang/Object;"⟩ ∈ lw_all := lw_w 7 rfl rfl
theorem sp6 : Cond.selects "TrailGuide$State" ⟨"TrailGuide$State", "pointOf", "(I)LTrailGuide$Point;"⟩ ⟨"TrailGuide$State", "pointOf", "(I)LTrailGuide$Point;"⟩ ∈ lw_all := lw_w 6 rfl rfl
theorem sp5 : Cond.selects "java/lang/Throwable" ⟨"java/lang/Throwable", "fillInStackTrace", "(I)Ljava/lang/Throwable;"⟩ ⟨"java/lang/Throwable", "fillInStackTrace", "(I)Ljava/lang/Throwable;"⟩ ∈ lw_all := lw_w 5 rfl rfl
theorem sp4 : Cond.selects "TrailGuide$State" ⟨"TrailGuide$State", "sumOf", "([I)I"⟩ ⟨"TrailGuide$State", "sumOf", "([I)I"⟩ ∈ lw_all := lw_w 4 rfl rfl
theorem sp3 : Cond.selects "TrailGuide$State" ⟨"TrailGuide$State", "closest", "([I[Z)I"⟩ ⟨"TrailGuide$State", "closest", "([I[Z)I"⟩ ∈ lw_all := lw_w 3 rfl rfl
theorem sp2 : Cond.selects "TrailGuide$State" ⟨"TrailGuide$State", "startingAt", "(I)[I"⟩ ⟨"TrailGuide$State", "startingAt", "(I)[I"⟩ ∈ lw_all := lw_w 2 rfl rfl
theorem sp1 : Cond.selects "TrailGuide" ⟨"TrailGuide", "haveEqualDistances", "(I)Z"⟩ ⟨"TrailGuide", "haveEqualDistances", "(I)Z"⟩ ∈ lw_all := lw_w 1 rfl rfl
theorem sp0 : Cond.selects "TrailGuide$State" ⟨"TrailGuide$State", "mark", "(I[Z)V"⟩ ⟨"TrailGuide$State", "mark", "(I[Z)V"⟩ ∈ lw_all := lw_w 0 rfl rfl
theorem z_ble {a b : Nat} (h : Nat.ble a b = true) : a ≤ b := Nat.le_of_ble_eq_true h
section ZCN
variable {G : State} {M M' : zMd} {d rc rs pc : Nat} {ls : List (Option Value)} {rest : List Value} {ah : zH} {Q : zRs → zH → Prop} {idx : Nat}
theorem z_nb (b : Bool) : narrow .boolean (.int (zi (zB b))) = .int (zi (zB b)) := by cases b <;> rfl
theorem zi_0R : (zi 0 : Int32) = 0 := rfl
theorem zc_s0 (hd : decode M.2.1 pc = .ok (.invokestatic idx, 3)) (hM : zHas M') (hsig : zSig M'.1 0) (hen : Nat.ble (lg_sl []).length M'.2.2.1 = true) (hw : Nat.ble (rest.map fun v => v.category).sum 8 = true) (d' mc ms : Nat) (hd' : d' + 1 ≤ d) (hc : mc ≤ rc) (hs : ms ≤ rs) (hl : Cond.methodLink M.1.cls idx M'.1 ∈ lw_all) (hst : Cond.static M'.1 ∈ lw_all) (k : zW G M' d' mc ms 0 (zent []) [] ah (zK G M d (rc - mc) (rs - ms) pc 3 ls rest Q)) : zW G M d rc rs pc ls (rest) ah Q := zr_static hd hM hsig rfl (z_ble hen) (z_ble hw) hd' hc hs hl hst rfl k
theorem zc_sN0 {host : String} (hnh : M'.2.2.2.2 = []) (hd : decode M.2.1 pc = .ok (.invokestatic idx, 3)) (hM : zHas M') (hsig : zSig M'.1 0) (hen : Nat.ble (lg_sl []).length M'.2.2.1 = true) (hw : Nat.ble (rest.map fun v => v.category).sum 8 = true) (d' mc ms : Nat) (hd' : d' + 1 ≤ d) (hc : mc ≤ rc) (hs : ms ≤ rs) (hl : Cond.methodLinkNest M.1.cls idx M'.1 host ∈ lw_tbl) (hst : Cond.static M'.1 ∈ lw_all) (k : zW G M' d' mc ms 0 (zent []) [] ah (zK G M d (rc - mc) (rs - ms) pc 3 ls rest Q)) : zW G M d rc rs pc ls (rest) ah Q := zr_staticN hnh hd hM hsig rfl (z_ble hen) (z_ble hw) hd' hc hs hl hst rfl k
theorem zc_v0 {b : Nat} {Cn : String} (hd : decode M.2.1 pc = .ok (.invokevirtual idx, 3)) (hM : zHas M') (hsig : zSig M'.1 0) (hen : Nat.ble (lg_sl (.ref b :: [])).length M'.2.2.1 = true) (hw : Nat.ble (rest.map fun v => v.category).sum 8 = true) (d' mc ms : Nat) (hd' : d' + 1 ≤ d) (hc : mc ≤ rc) (hs : ms ≤ rs) (hl : Cond.methodLink M.1.cls idx M'.1 ∈ lw_all) (hin : Cond.instanceMethod M'.1 ∈ lw_all) (hse : Cond.selects Cn M'.1 M'.1 ∈ lw_all) (hr : zRc G ah b Cn) (k : zW G M' d' mc ms 0 (zent (.ref b :: [])) [] ah (zK G M d (rc - mc) (rs - ms) pc 3 ls rest Q)) : zW G M d rc rs pc ls (.ref b :: rest) ah Q := zr_virt hd hM hsig rfl (z_ble hen) (z_ble hw) hd' hc hs hl hin hse rfl hr k
theorem zc_vN0 {b : Nat} {Cn host : String} (hnh : M'.2.2.2.2 = []) (hd : decode M.2.1 pc = .ok (.invokevirtual idx, 3)) (hM : zHas M') (hsig : zSig M'.1 0) (hen : Nat.ble (lg_sl (.ref b :: [])).length M'.2.2.1 = true) (hw : Nat.ble (rest.map fun v => v.category).sum 8 = true) (d' mc ms : Nat) (hd' : d' + 1 ≤ d) (hc : mc ≤ rc) (hs : ms ≤ rs) (hl : Cond.methodLinkNest M.1.cls idx M'.1 host ∈ lw_tbl) (hin : Cond.instanceMethod M'.1 ∈ lw_all) (hse : Cond.selects Cn M'.1 M'.1 ∈ lw_all) (hr : zRc G ah b Cn) (k : zW G M' d' mc ms 0 (zent (.ref b :: [])) [] ah (zK G M d (rc - mc) (rs - ms) pc 3 ls rest Q)) : zW G M d rc rs pc ls (.ref b :: rest) ah Q := zr_virtN hnh hd hM hsig rfl (z_ble hen) (z_ble hw) hd' hc hs hl hin hse rfl hr k
theorem zc_i0 {b : Nat} (hnh : M'.2.2.2.2 = []) (hnr : M'.2.2.2.1 = none) (hni : M'.1.name = "<init>") (hd : decode M.2.1 pc = .ok (.invokespecial idx, 3)) (hM : zHas M') (hsig : zSig M'.1 0) (hen : Nat.ble (lg_sl (.ref b :: [])).length M'.2.2.1 = true) (hw : Nat.ble (rest.map fun v => v.category).sum 8 = true) (d' mc ms : Nat) (hd' : d' + 1 ≤ d) (hc : mc ≤ rc) (hs : ms ≤ rs) (hl : Cond.methodLink M.1.cls idx M'.1 ∈ lw_all) (hin : Cond.instanceMethod M'.1 ∈ lw_all) (k : zW G M' d' mc ms 0 (zent (.ref b :: [])) [] ah (zK G M d (rc - mc) (rs - ms) pc 3 ls rest Q)) : zW G M d rc rs pc ls (.ref b :: rest) ah Q := zr_init hnh hnr hni hd hM hsig rfl (z_ble hen) (z_ble hw) hd' hc hs hl hin rfl k
theorem zc_iN0 {b : Nat} {host : String} (hnh : M'.2.2.2.2 = []) (hnr : M'.2.2.2.1 = none) (hni : M'.1.name = "<init>") (hd : decode M.2.1 pc = .ok (.invokespecial idx, 3)) (hM : zHas M') (hsig : zSig M'.1 0) (hen : Nat.ble (lg_sl (.ref b :: [])).length M'.2.2.1 = true) (hw : Nat.ble (rest.map fun v => v.category).sum 8 = true) (d' mc ms : Nat) (hd' : d' + 1 ≤ d) (hc : mc ≤ rc) (hs : ms ≤ rs) (hl : Cond.methodLinkNest M.1.cls idx M'.1 host ∈ lw_tbl) (hin : Cond.instanceMethod M'.1 ∈ lw_all) (k : zW G M' d' mc ms 0 (zent (.ref b :: [])) [] ah (zK G M d (rc - mc) (rs - ms) pc 3 ls rest Q)) : zW G M d rc rs pc ls (.ref b :: rest) ah Q := zr_initN hnh hnr hni hd hM hsig rfl (z_ble hen) (z_ble hw) hd' hc hs hl hin rfl k
theorem zc_s1 {a1 : Value} (hd : decode M.2.1 pc = .ok (.invokestatic idx, 3)) (hM : zHas M') (hsig : zSig M'.1 1) (hen : Nat.ble (lg_sl [a1]).length M'.2.2.1 = true) (hw : Nat.ble (rest.map fun v => v.category).sum 8 = true) (d' mc ms : Nat) (hd' : d' + 1 ≤ d) (hc : mc ≤ rc) (hs : ms ≤ rs) (hl : Cond.methodLink M.1.cls idx M'.1 ∈ lw_all) (hst : Cond.static M'.1 ∈ lw_all) (k : zW G M' d' mc ms 0 (zent [a1]) [] ah (zK G M d (rc - mc) (rs - ms) pc 3 ls rest Q)) : zW G M d rc rs pc ls (a1 :: rest) ah Q := zr_static hd hM hsig rfl (z_ble hen) (z_ble hw) hd' hc hs hl hst rfl k
theorem zc_sN1 {a1 : Value} {host : String} (hnh : M'.2.2.2.2 = []) (hd : decode M.2.1 pc = .ok (.invokestatic idx, 3)) (hM : zHas M') (hsig : zSig M'.1 1) (hen : Nat.ble (lg_sl [a1]).length M'.2.2.1 = true) (hw : Nat.ble (rest.map fun v => v.category).sum 8 = true) (d' mc ms : Nat) (hd' : d' + 1 ≤ d) (hc : mc ≤ rc) (hs : ms ≤ rs) (hl : Cond.methodLinkNest M.1.cls idx M'.1 host ∈ lw_tbl) (hst : Cond.static M'.1 ∈ lw_all) (k : zW G M' d' mc ms 0 (zent [a1]) [] ah (zK G M d (rc - mc) (rs - ms) pc 3 ls rest Q)) : zW G M d rc rs pc ls (a1 :: rest) ah Q := zr_staticN hnh hd hM hsig rfl (z_ble hen) (z_ble hw) hd' hc hs hl hst rfl k
theorem zc_v1 {a1 : Value} {b : Nat} {Cn : String} (hd : decode M.2.1 pc = .ok (.invokevirtual idx, 3)) (hM : zHas M') (hsig : zSig M'.1 1) (hen : Nat.ble (lg_sl (.ref b :: [a1])).length M'.2.2.1 = true) (hw : Nat.ble (rest.map fun v => v.category).sum 8 = true) (d' mc ms : Nat) (hd' : d' + 1 ≤ d) (hc : mc ≤ rc) (hs : ms ≤ rs) (hl : Cond.methodLink M.1.cls idx M'.1 ∈ lw_all) (hin : Cond.instanceMethod M'.1 ∈ lw_all) (hse : Cond.selects Cn M'.1 M'.1 ∈ lw_all) (hr : zRc G ah b Cn) (k : zW G M' d' mc ms 0 (zent (.ref b :: [a1])) [] ah (zK G M d (rc - mc) (rs - ms) pc 3 ls rest Q)) : zW G M d rc rs pc ls (a1 :: .ref b :: rest) ah Q := zr_virt hd hM hsig rfl (z_ble hen) (z_ble hw) hd' hc hs hl hin hse rfl hr k
theorem zc_vN1 {a1 : Value} {b : Nat} {Cn host : String} (hnh : M'.2.2.2.2 = []) (hd : decode M.2.1 pc = .ok (.invokevirtual idx, 3)) (hM : zHas M') (hsig : zSig M'.1 1) (hen : Nat.ble (lg_sl (.ref b :: [a1])).length M'.2.2.1 = true) (hw : Nat.ble (rest.map fun v => v.category).sum 8 = true) (d' mc ms : Nat) (hd' : d' + 1 ≤ d) (hc : mc ≤ rc) (hs : ms ≤ rs) (hl : Cond.methodLinkNest M.1.cls idx M'.1 host ∈ lw_tbl) (hin : Cond.instanceMethod M'.1 ∈ lw_all) (hse : Cond.selects Cn M'.1 M'.1 ∈ lw_all) (hr : zRc G ah b Cn) (k : zW G M' d' mc ms 0 (zent (.ref b :: [a1])) [] ah (zK G M d (rc - mc) (rs - ms) pc 3 ls rest Q)) : zW G M d rc rs pc ls (a1 :: .ref b :: rest) ah Q := zr_virtN hnh hd hM hsig rfl (z_ble hen) (z_ble hw) hd' hc hs hl hin hse rfl hr k
theorem zc_i1 {a1 : Value} {b : Nat} (hnh : M'.2.2.2.2 = []) (hnr : M'.2.2.2.1 = none) (hni : M'.1.name = "<init>") (hd : decode M.2.1 pc = .ok (.invokespecial idx, 3)) (hM : zHas M') (hsig : zSig M'.1 1) (hen : Nat.ble (lg_sl (.ref b :: [a1])).length M'.2.2.1 = true) (hw : Nat.ble (rest.map fun v => v.category).sum 8 = true) (d' mc ms : Nat) (hd' : d' + 1 ≤ d) (hc : mc ≤ rc) (hs : ms ≤ rs) (hl : Cond.methodLink M.1.cls idx M'.1 ∈ lw_all) (hin : Cond.instanceMethod M'.1 ∈ lw_all) (k : zW G M' d' mc ms 0 (zent (.ref b :: [a1])) [] ah (zK G M d (rc - mc) (rs - ms) pc 3 ls rest Q)) : zW G M d rc rs pc ls (a1 :: .ref b :: rest) ah Q := zr_init hnh hnr hni hd hM hsig rfl (z_ble hen) (z_ble hw) hd' hc hs hl hin rfl k
theorem zc_iN1 {a1 : Value} {b : Nat} {host : String} (hnh : M'.2.2.2.2 = []) (hnr : M'.2.2.2.1 = none) (hni : M'.1.name = "<init>") (hd : decode M.2.1 pc = .ok (.invokespecial idx, 3)) (hM : zHas M') (hsig : zSig M'.1 1) (hen : Nat.ble (lg_sl (.ref b :: [a1])).length M'.2.2.1 = true) (hw : Nat.ble (rest.map fun v => v.category).sum 8 = true) (d' mc ms : Nat) (hd' : d' + 1 ≤ d) (hc : mc ≤ rc) (hs : ms ≤ rs) (hl : Cond.methodLinkNest M.1.cls idx M'.1 host ∈ lw_tbl) (hin : Cond.instanceMethod M'.1 ∈ lw_all) (k : zW G M' d' mc ms 0 (zent (.ref b :: [a1])) [] ah (zK G M d (rc - mc) (rs - ms) pc 3 ls rest Q)) : zW G M d rc rs pc ls (a1 :: .ref b :: rest) ah Q := zr_initN hnh hnr hni hd hM hsig rfl (z_ble hen) (z_ble hw) hd' hc hs hl hin rfl k
theorem zc_s2 {a1 a2 : Value} (hd : decode M.2.1 pc = .ok (.invokestatic idx, 3)) (hM : zHas M') (hsig : zSig M'.1 2) (hen : Nat.ble (lg_sl [a1, a2]).length M'.2.2.1 = true) (hw : Nat.ble (rest.map fun v => v.category).sum 8 = true) (d' mc ms : Nat) (hd' : d' + 1 ≤ d) (hc : mc ≤ rc) (hs : ms ≤ rs) (hl : Cond.methodLink M.1.cls idx M'.1 ∈ lw_all) (hst : Cond.static M'.1 ∈ lw_all) (k : zW G M' d' mc ms 0 (zent [a1, a2]) [] ah (zK G M d (rc - mc) (rs - ms) pc 3 ls rest Q)) : zW G M d rc rs pc ls (a2 :: a1 :: rest) ah Q := zr_static hd hM hsig rfl (z_ble hen) (z_ble hw) hd' hc hs hl hst rfl k
theorem zc_sN2 {a1 a2 : Value} {host : String} (hnh : M'.2.2.2.2 = []) (hd : decode M.2.1 pc = .ok (.invokestatic idx, 3)) (hM : zHas M') (hsig : zSig M'.1 2) (hen : Nat.ble (lg_sl [a1, a2]).length M'.2.2.1 = true) (hw : Nat.ble (rest.map fun v => v.category).sum 8 = true) (d' mc ms : Nat) (hd' : d' + 1 ≤ d) (hc : mc ≤ rc) (hs : ms ≤ rs) (hl : Cond.methodLinkNest M.1.cls idx M'.1 host ∈ lw_tbl) (hst : Cond.static M'.1 ∈ lw_all) (k : zW G M' d' mc ms 0 (zent [a1, a2]) [] ah (zK G M d (rc - mc) (rs - ms) pc 3 ls rest Q)) : zW G M d rc rs pc ls (a2 :: a1 :: rest) ah Q := zr_staticN hnh hd hM hsig rfl (z_ble hen) (z_ble hw) hd' hc hs hl hst rfl k
theorem zc_v2 {a1 a2 : Value} {b : Nat} {Cn : String} (hd : decode M.2.1 pc = .ok (.invokevirtual idx, 3)) (hM : zHas M') (hsig : zSig M'.1 2) (hen : Nat.ble (lg_sl (.ref b :: [a1, a2])).length M'.2.2.1 = true) (hw : Nat.ble (rest.map fun v => v.category).sum 8 = true) (d' mc ms : Nat) (hd' : d' + 1 ≤ d) (hc : mc ≤ rc) (hs : ms ≤ rs) (hl : Cond.methodLink M.1.cls idx M'.1 ∈ lw_all) (hin : Cond.instanceMethod M'.1 ∈ lw_all) (hse : Cond.selects Cn M'.1 M'.1 ∈ lw_all) (hr : zRc G ah b Cn) (k : zW G M' d' mc ms 0 (zent (.ref b :: [a1, a2])) [] ah (zK G M d (rc - mc) (rs - ms) pc 3 ls rest Q)) : zW G M d rc rs pc ls (a2 :: a1 :: .ref b :: rest) ah Q := zr_virt hd hM hsig rfl (z_ble hen) (z_ble hw) hd' hc hs hl hin hse rfl hr k
theorem zc_vN2 {a1 a2 : Value} {b : Nat} {Cn host : String} (hnh : M'.2.2.2.2 = []) (hd : decode M.2.1 pc = .ok (.invokevirtual idx, 3)) (hM : zHas M') (hsig : zSig M'.1 2) (hen : Nat.ble (lg_sl (.ref b :: [a1, a2])).length M'.2.2.1 = true) (hw : Nat.ble (rest.map fun v => v.category).sum 8 = true) (d' mc ms : Nat) (hd' : d' + 1 ≤ d) (hc : mc ≤ rc) (hs : ms ≤ rs) (hl : Cond.methodLinkNest M.1.cls idx M'.1 host ∈ lw_tbl) (hin : Cond.instanceMethod M'.1 ∈ lw_all) (hse : Cond.selects Cn M'.1 M'.1 ∈ lw_all) (hr : zRc G ah b Cn) (k : zW G M' d' mc ms 0 (zent (.ref b :: [a1, a2])) [] ah (zK G M d (rc - mc) (rs - ms) pc 3 ls rest Q)) : zW G M d rc rs pc ls (a2 :: a1 :: .ref b :: rest) ah Q := zr_virtN hnh hd hM hsig rfl (z_ble hen) (z_ble hw) hd' hc hs hl hin hse rfl hr k
theorem zc_i2 {a1 a2 : Value} {b : Nat} (hnh : M'.2.2.2.2 = []) (hnr : M'.2.2.2.1 = none) (hni : M'.1.name = "<init>") (hd : decode M.2.1 pc = .ok (.invokespecial idx, 3)) (hM : zHas M') (hsig : zSig M'.1 2) (hen : Nat.ble (lg_sl (.ref b :: [a1, a2])).length M'.2.2.1 = true) (hw : Nat.ble (rest.map fun v => v.category).sum 8 = true) (d' mc ms : Nat) (hd' : d' + 1 ≤ d) (hc : mc ≤ rc) (hs : ms ≤ rs) (hl : Cond.methodLink M.1.cls idx M'.1 ∈ lw_all) (hin : Cond.instanceMethod M'.1 ∈ lw_all) (k : zW G M' d' mc ms 0 (zent (.ref b :: [a1, a2])) [] ah (zK G M d (rc - mc) (rs - ms) pc 3 ls rest Q)) : zW G M d rc rs pc ls (a2 :: a1 :: .ref b :: rest) ah Q := zr_init hnh hnr hni hd hM hsig rfl (z_ble hen) (z_ble hw) hd' hc hs hl hin rfl k
theorem zc_iN2 {a1 a2 : Value} {b : Nat} {host : String} (hnh : M'.2.2.2.2 = []) (hnr : M'.2.2.2.1 = none) (hni : M'.1.name = "<init>") (hd : decode M.2.1 pc = .ok (.invokespecial idx, 3)) (hM : zHas M') (hsig : zSig M'.1 2) (hen : Nat.ble (lg_sl (.ref b :: [a1, a2])).length M'.2.2.1 = true) (hw : Nat.ble (rest.map fun v => v.category).sum 8 = true) (d' mc ms : Nat) (hd' : d' + 1 ≤ d) (hc : mc ≤ rc) (hs : ms ≤ rs) (hl : Cond.methodLinkNest M.1.cls idx M'.1 host ∈ lw_tbl) (hin : Cond.instanceMethod M'.1 ∈ lw_all) (k : zW G M' d' mc ms 0 (zent (.ref b :: [a1, a2])) [] ah (zK G M d (rc - mc) (rs - ms) pc 3 ls rest Q)) : zW G M d rc rs pc ls (a2 :: a1 :: .ref b :: rest) ah Q := zr_initN hnh hnr hni hd hM hsig rfl (z_ble hen) (z_ble hw) hd' hc hs hl hin rfl k
theorem zc_s3 {a1 a2 a3 : Value} (hd : decode M.2.1 pc = .ok (.invokestatic idx, 3)) (hM : zHas M') (hsig : zSig M'.1 3) (hen : Nat.ble (lg_sl [a1, a2, a3]).length M'.2.2.1 = true) (hw : Nat.ble (rest.map fun v => v.category).sum 8 = true) (d' mc ms : Nat) (hd' : d' + 1 ≤ d) (hc : mc ≤ rc) (hs : ms ≤ rs) (hl : Cond.methodLink M.1.cls idx M'.1 ∈ lw_all) (hst : Cond.static M'.1 ∈ lw_all) (k : zW G M' d' mc ms 0 (zent [a1, a2, a3]) [] ah (zK G M d (rc - mc) (rs - ms) pc 3 ls rest Q)) : zW G M d rc rs pc ls (a3 :: a2 :: a1 :: rest) ah Q := zr_static hd hM hsig rfl (z_ble hen) (z_ble hw) hd' hc hs hl hst rfl k
theorem zc_sN3 {a1 a2 a3 : Value} {host : String} (hnh : M'.2.2.2.2 = []) (hd : decode M.2.1 pc = .ok (.invokestatic idx, 3)) (hM : zHas M') (hsig : zSig M'.1 3) (hen : Nat.ble (lg_sl [a1, a2, a3]).length M'.2.2.1 = true) (hw : Nat.ble (rest.map fun v => v.category).sum 8 = true) (d' mc ms : Nat) (hd' : d' + 1 ≤ d) (hc : mc ≤ rc) (hs : ms ≤ rs) (hl : Cond.methodLinkNest M.1.cls idx M'.1 host ∈ lw_tbl) (hst : Cond.static M'.1 ∈ lw_all) (k : zW G M' d' mc ms 0 (zent [a1, a2, a3]) [] ah (zK G M d (rc - mc) (rs - ms) pc 3 ls rest Q)) : zW G M d rc rs pc ls (a3 :: a2 :: a1 :: rest) ah Q := zr_staticN hnh hd hM hsig rfl (z_ble hen) (z_ble hw) hd' hc hs hl hst rfl k
theorem zc_v3 {a1 a2 a3 : Value} {b : Nat} {Cn : String} (hd : decode M.2.1 pc = .ok (.invokevirtual idx, 3)) (hM : zHas M') (hsig : zSig M'.1 3) (hen : Nat.ble (lg_sl (.ref b :: [a1, a2, a3])).length M'.2.2.1 = true) (hw : Nat.ble (rest.map fun v => v.category).sum 8 = true) (d' mc ms : Nat) (hd' : d' + 1 ≤ d) (hc : mc ≤ rc) (hs : ms ≤ rs) (hl : Cond.methodLink M.1.cls idx M'.1 ∈ lw_all) (hin : Cond.instanceMethod M'.1 ∈ lw_all) (hse : Cond.selects Cn M'.1 M'.1 ∈ lw_all) (hr : zRc G ah b Cn) (k : zW G M' d' mc ms 0 (zent (.ref b :: [a1, a2, a3])) [] ah (zK G M d (rc - mc) (rs - ms) pc 3 ls rest Q)) : zW G M d rc rs pc ls (a3 :: a2 :: a1 :: .ref b :: rest) ah Q := zr_virt hd hM hsig rfl (z_ble hen) (z_ble hw) hd' hc hs hl hin hse rfl hr k
theorem zc_vN3 {a1 a2 a3 : Value} {b : Nat} {Cn host : String} (hnh : M'.2.2.2.2 = []) (hd : decode M.2.1 pc = .ok (.invokevirtual idx, 3)) (hM : zHas M') (hsig : zSig M'.1 3) (hen : Nat.ble (lg_sl (.ref b :: [a1, a2, a3])).length M'.2.2.1 = true) (hw : Nat.ble (rest.map fun v => v.category).sum 8 = true) (d' mc ms : Nat) (hd' : d' + 1 ≤ d) (hc : mc ≤ rc) (hs : ms ≤ rs) (hl : Cond.methodLinkNest M.1.cls idx M'.1 host ∈ lw_tbl) (hin : Cond.instanceMethod M'.1 ∈ lw_all) (hse : Cond.selects Cn M'.1 M'.1 ∈ lw_all) (hr : zRc G ah b Cn) (k : zW G M' d' mc ms 0 (zent (.ref b :: [a1, a2, a3])) [] ah (zK G M d (rc - mc) (rs - ms) pc 3 ls rest Q)) : zW G M d rc rs pc ls (a3 :: a2 :: a1 :: .ref b :: rest) ah Q := zr_virtN hnh hd hM hsig rfl (z_ble hen) (z_ble hw) hd' hc hs hl hin hse rfl hr k
theorem zc_i3 {a1 a2 a3 : Value} {b : Nat} (hnh : M'.2.2.2.2 = []) (hnr : M'.2.2.2.1 = none) (hni : M'.1.name = "<init>") (hd : decode M.2.1 pc = .ok (.invokespecial idx, 3)) (hM : zHas M') (hsig : zSig M'.1 3) (hen : Nat.ble (lg_sl (.ref b :: [a1, a2, a3])).length M'.2.2.1 = true) (hw : Nat.ble (rest.map fun v => v.category).sum 8 = true) (d' mc ms : Nat) (hd' : d' + 1 ≤ d) (hc : mc ≤ rc) (hs : ms ≤ rs) (hl : Cond.methodLink M.1.cls idx M'.1 ∈ lw_all) (hin : Cond.instanceMethod M'.1 ∈ lw_all) (k : zW G M' d' mc ms 0 (zent (.ref b :: [a1, a2, a3])) [] ah (zK G M d (rc - mc) (rs - ms) pc 3 ls rest Q)) : zW G M d rc rs pc ls (a3 :: a2 :: a1 :: .ref b :: rest) ah Q := zr_init hnh hnr hni hd hM hsig rfl (z_ble hen) (z_ble hw) hd' hc hs hl hin rfl k
theorem zc_iN3 {a1 a2 a3 : Value} {b : Nat} {host : String} (hnh : M'.2.2.2.2 = []) (hnr : M'.2.2.2.1 = none) (hni : M'.1.name = "<init>") (hd : decode M.2.1 pc = .ok (.invokespecial idx, 3)) (hM : zHas M') (hsig : zSig M'.1 3) (hen : Nat.ble (lg_sl (.ref b :: [a1, a2, a3])).length M'.2.2.1 = true) (hw : Nat.ble (rest.map fun v => v.category).sum 8 = true) (d' mc ms : Nat) (hd' : d' + 1 ≤ d) (hc : mc ≤ rc) (hs : ms ≤ rs) (hl : Cond.methodLinkNest M.1.cls idx M'.1 host ∈ lw_tbl) (hin : Cond.instanceMethod M'.1 ∈ lw_all) (k : zW G M' d' mc ms 0 (zent (.ref b :: [a1, a2, a3])) [] ah (zK G M d (rc - mc) (rs - ms) pc 3 ls rest Q)) : zW G M d rc rs pc ls (a3 :: a2 :: a1 :: .ref b :: rest) ah Q := zr_initN hnh hnr hni hd hM hsig rfl (z_ble hen) (z_ble hw) hd' hc hs hl hin rfl k
theorem zc_s4 {a1 a2 a3 a4 : Value} (hd : decode M.2.1 pc = .ok (.invokestatic idx, 3)) (hM : zHas M') (hsig : zSig M'.1 4) (hen : Nat.ble (lg_sl [a1, a2, a3, a4]).length M'.2.2.1 = true) (hw : Nat.ble (rest.map fun v => v.category).sum 8 = true) (d' mc ms : Nat) (hd' : d' + 1 ≤ d) (hc : mc ≤ rc) (hs : ms ≤ rs) (hl : Cond.methodLink M.1.cls idx M'.1 ∈ lw_all) (hst : Cond.static M'.1 ∈ lw_all) (k : zW G M' d' mc ms 0 (zent [a1, a2, a3, a4]) [] ah (zK G M d (rc - mc) (rs - ms) pc 3 ls rest Q)) : zW G M d rc rs pc ls (a4 :: a3 :: a2 :: a1 :: rest) ah Q := zr_static hd hM hsig rfl (z_ble hen) (z_ble hw) hd' hc hs hl hst rfl k
theorem zc_sN4 {a1 a2 a3 a4 : Value} {host : String} (hnh : M'.2.2.2.2 = []) (hd : decode M.2.1 pc = .ok (.invokestatic idx, 3)) (hM : zHas M') (hsig : zSig M'.1 4) (hen : Nat.ble (lg_sl [a1, a2, a3, a4]).length M'.2.2.1 = true) (hw : Nat.ble (rest.map fun v => v.category).sum 8 = true) (d' mc ms : Nat) (hd' : d' + 1 ≤ d) (hc : mc ≤ rc) (hs : ms ≤ rs) (hl : Cond.methodLinkNest M.1.cls idx M'.1 host ∈ lw_tbl) (hst : Cond.static M'.1 ∈ lw_all) (k : zW G M' d' mc ms 0 (zent [a1, a2, a3, a4]) [] ah (zK G M d (rc - mc) (rs - ms) pc 3 ls rest Q)) : zW G M d rc rs pc ls (a4 :: a3 :: a2 :: a1 :: rest) ah Q := zr_staticN hnh hd hM hsig rfl (z_ble hen) (z_ble hw) hd' hc hs hl hst rfl k
theorem zc_v4 {a1 a2 a3 a4 : Value} {b : Nat} {Cn : String} (hd : decode M.2.1 pc = .ok (.invokevirtual idx, 3)) (hM : zHas M') (hsig : zSig M'.1 4) (hen : Nat.ble (lg_sl (.ref b :: [a1, a2, a3, a4])).length M'.2.2.1 = true) (hw : Nat.ble (rest.map fun v => v.category).sum 8 = true) (d' mc ms : Nat) (hd' : d' + 1 ≤ d) (hc : mc ≤ rc) (hs : ms ≤ rs) (hl : Cond.methodLink M.1.cls idx M'.1 ∈ lw_all) (hin : Cond.instanceMethod M'.1 ∈ lw_all) (hse : Cond.selects Cn M'.1 M'.1 ∈ lw_all) (hr : zRc G ah b Cn) (k : zW G M' d' mc ms 0 (zent (.ref b :: [a1, a2, a3, a4])) [] ah (zK G M d (rc - mc) (rs - ms) pc 3 ls rest Q)) : zW G M d rc rs pc ls (a4 :: a3 :: a2 :: a1 :: .ref b :: rest) ah Q := zr_virt hd hM hsig rfl (z_ble hen) (z_ble hw) hd' hc hs hl hin hse rfl hr k
theorem zc_vN4 {a1 a2 a3 a4 : Value} {b : Nat} {Cn host : String} (hnh : M'.2.2.2.2 = []) (hd : decode M.2.1 pc = .ok (.invokevirtual idx, 3)) (hM : zHas M') (hsig : zSig M'.1 4) (hen : Nat.ble (lg_sl (.ref b :: [a1, a2, a3, a4])).length M'.2.2.1 = true) (hw : Nat.ble (rest.map fun v => v.category).sum 8 = true) (d' mc ms : Nat) (hd' : d' + 1 ≤ d) (hc : mc ≤ rc) (hs : ms ≤ rs) (hl : Cond.methodLinkNest M.1.cls idx M'.1 host ∈ lw_tbl) (hin : Cond.instanceMethod M'.1 ∈ lw_all) (hse : Cond.selects Cn M'.1 M'.1 ∈ lw_all) (hr : zRc G ah b Cn) (k : zW G M' d' mc ms 0 (zent (.ref b :: [a1, a2, a3, a4])) [] ah (zK G M d (rc - mc) (rs - ms) pc 3 ls rest Q)) : zW G M d rc rs pc ls (a4 :: a3 :: a2 :: a1 :: .ref b :: rest) ah Q := zr_virtN hnh hd hM hsig rfl (z_ble hen) (z_ble hw) hd' hc hs hl hin hse rfl hr k
theorem zc_i4 {a1 a2 a3 a4 : Value} {b : Nat} (hnh : M'.2.2.2.2 = []) (hnr : M'.2.2.2.1 = none) (hni : M'.1.name = "<init>") (hd : decode M.2.1 pc = .ok (.invokespecial idx, 3)) (hM : zHas M') (hsig : zSig M'.1 4) (hen : Nat.ble (lg_sl (.ref b :: [a1, a2, a3, a4])).length M'.2.2.1 = true) (hw : Nat.ble (rest.map fun v => v.category).sum 8 = true) (d' mc ms : Nat) (hd' : d' + 1 ≤ d) (hc : mc ≤ rc) (hs : ms ≤ rs) (hl : Cond.methodLink M.1.cls idx M'.1 ∈ lw_all) (hin : Cond.instanceMethod M'.1 ∈ lw_all) (k : zW G M' d' mc ms 0 (zent (.ref b :: [a1, a2, a3, a4])) [] ah (zK G M d (rc - mc) (rs - ms) pc 3 ls rest Q)) : zW G M d rc rs pc ls (a4 :: a3 :: a2 :: a1 :: .ref b :: rest) ah Q := zr_init hnh hnr hni hd hM hsig rfl (z_ble hen) (z_ble hw) hd' hc hs hl hin rfl k
theorem zc_iN4 {a1 a2 a3 a4 : Value} {b : Nat} {host : String} (hnh : M'.2.2.2.2 = []) (hnr : M'.2.2.2.1 = none) (hni : M'.1.name = "<init>") (hd : decode M.2.1 pc = .ok (.invokespecial idx, 3)) (hM : zHas M') (hsig : zSig M'.1 4) (hen : Nat.ble (lg_sl (.ref b :: [a1, a2, a3, a4])).length M'.2.2.1 = true) (hw : Nat.ble (rest.map fun v => v.category).sum 8 = true) (d' mc ms : Nat) (hd' : d' + 1 ≤ d) (hc : mc ≤ rc) (hs : ms ≤ rs) (hl : Cond.methodLinkNest M.1.cls idx M'.1 host ∈ lw_tbl) (hin : Cond.instanceMethod M'.1 ∈ lw_all) (k : zW G M' d' mc ms 0 (zent (.ref b :: [a1, a2, a3, a4])) [] ah (zK G M d (rc - mc) (rs - ms) pc 3 ls rest Q)) : zW G M d rc rs pc ls (a4 :: a3 :: a2 :: a1 :: .ref b :: rest) ah Q := zr_initN hnh hnr hni hd hM hsig rfl (z_ble hen) (z_ble hw) hd' hc hs hl hin rfl k
theorem zc_s5 {a1 a2 a3 a4 a5 : Value} (hd : decode M.2.1 pc = .ok (.invokestatic idx, 3)) (hM : zHas M') (hsig : zSig M'.1 5) (hen : Nat.ble (lg_sl [a1, a2, a3, a4, a5]).length M'.2.2.1 = true) (hw : Nat.ble (rest.map fun v => v.category).sum 8 = true) (d' mc ms : Nat) (hd' : d' + 1 ≤ d) (hc : mc ≤ rc) (hs : ms ≤ rs) (hl : Cond.methodLink M.1.cls idx M'.1 ∈ lw_all) (hst : Cond.static M'.1 ∈ lw_all) (k : zW G M' d' mc ms 0 (zent [a1, a2, a3, a4, a5]) [] ah (zK G M d (rc - mc) (rs - ms) pc 3 ls rest Q)) : zW G M d rc rs pc ls (a5 :: a4 :: a3 :: a2 :: a1 :: rest) ah Q := zr_static hd hM hsig rfl (z_ble hen) (z_ble hw) hd' hc hs hl hst rfl k
theorem zc_sN5 {a1 a2 a3 a4 a5 : Value} {host : String} (hnh : M'.2.2.2.2 = []) (hd : decode M.2.1 pc = .ok (.invokestatic idx, 3)) (hM : zHas M') (hsig : zSig M'.1 5) (hen : Nat.ble (lg_sl [a1, a2, a3, a4, a5]).length M'.2.2.1 = true) (hw : Nat.ble (rest.map fun v => v.category).sum 8 = true) (d' mc ms : Nat) (hd' : d' + 1 ≤ d) (hc : mc ≤ rc) (hs : ms ≤ rs) (hl : Cond.methodLinkNest M.1.cls idx M'.1 host ∈ lw_tbl) (hst : Cond.static M'.1 ∈ lw_all) (k : zW G M' d' mc ms 0 (zent [a1, a2, a3, a4, a5]) [] ah (zK G M d (rc - mc) (rs - ms) pc 3 ls rest Q)) : zW G M d rc rs pc ls (a5 :: a4 :: a3 :: a2 :: a1 :: rest) ah Q := zr_staticN hnh hd hM hsig rfl (z_ble hen) (z_ble hw) hd' hc hs hl hst rfl k
theorem zc_v5 {a1 a2 a3 a4 a5 : Value} {b : Nat} {Cn : String} (hd : decode M.2.1 pc = .ok (.invokevirtual idx, 3)) (hM : zHas M') (hsig : zSig M'.1 5) (hen : Nat.ble (lg_sl (.ref b :: [a1, a2, a3, a4, a5])).length M'.2.2.1 = true) (hw : Nat.ble (rest.map fun v => v.category).sum 8 = true) (d' mc ms : Nat) (hd' : d' + 1 ≤ d) (hc : mc ≤ rc) (hs : ms ≤ rs) (hl : Cond.methodLink M.1.cls idx M'.1 ∈ lw_all) (hin : Cond.instanceMethod M'.1 ∈ lw_all) (hse : Cond.selects Cn M'.1 M'.1 ∈ lw_all) (hr : zRc G ah b Cn) (k : zW G M' d' mc ms 0 (zent (.ref b :: [a1, a2, a3, a4, a5])) [] ah (zK G M d (rc - mc) (rs - ms) pc 3 ls rest Q)) : zW G M d rc rs pc ls (a5 :: a4 :: a3 :: a2 :: a1 :: .ref b :: rest) ah Q := zr_virt hd hM hsig rfl (z_ble hen) (z_ble hw) hd' hc hs hl hin hse rfl hr k
theorem zc_vN5 {a1 a2 a3 a4 a5 : Value} {b : Nat} {Cn host : String} (hnh : M'.2.2.2.2 = []) (hd : decode M.2.1 pc = .ok (.invokevirtual idx, 3)) (hM : zHas M') (hsig : zSig M'.1 5) (hen : Nat.ble (lg_sl (.ref b :: [a1, a2, a3, a4, a5])).length M'.2.2.1 = true) (hw : Nat.ble (rest.map fun v => v.category).sum 8 = true) (d' mc ms : Nat) (hd' : d' + 1 ≤ d) (hc : mc ≤ rc) (hs : ms ≤ rs) (hl : Cond.methodLinkNest M.1.cls idx M'.1 host ∈ lw_tbl) (hin : Cond.instanceMethod M'.1 ∈ lw_all) (hse : Cond.selects Cn M'.1 M'.1 ∈ lw_all) (hr : zRc G ah b Cn) (k : zW G M' d' mc ms 0 (zent (.ref b :: [a1, a2, a3, a4, a5])) [] ah (zK G M d (rc - mc) (rs - ms) pc 3 ls rest Q)) : zW G M d rc rs pc ls (a5 :: a4 :: a3 :: a2 :: a1 :: .ref b :: rest) ah Q := zr_virtN hnh hd hM hsig rfl (z_ble hen) (z_ble hw) hd' hc hs hl hin hse rfl hr k
theorem zc_i5 {a1 a2 a3 a4 a5 : Value} {b : Nat} (hnh : M'.2.2.2.2 = []) (hnr : M'.2.2.2.1 = none) (hni : M'.1.name = "<init>") (hd : decode M.2.1 pc = .ok (.invokespecial idx, 3)) (hM : zHas M') (hsig : zSig M'.1 5) (hen : Nat.ble (lg_sl (.ref b :: [a1, a2, a3, a4, a5])).length M'.2.2.1 = true) (hw : Nat.ble (rest.map fun v => v.category).sum 8 = true) (d' mc ms : Nat) (hd' : d' + 1 ≤ d) (hc : mc ≤ rc) (hs : ms ≤ rs) (hl : Cond.methodLink M.1.cls idx M'.1 ∈ lw_all) (hin : Cond.instanceMethod M'.1 ∈ lw_all) (k : zW G M' d' mc ms 0 (zent (.ref b :: [a1, a2, a3, a4, a5])) [] ah (zK G M d (rc - mc) (rs - ms) pc 3 ls rest Q)) : zW G M d rc rs pc ls (a5 :: a4 :: a3 :: a2 :: a1 :: .ref b :: rest) ah Q := zr_init hnh hnr hni hd hM hsig rfl (z_ble hen) (z_ble hw) hd' hc hs hl hin rfl k
theorem zc_iN5 {a1 a2 a3 a4 a5 : Value} {b : Nat} {host : String} (hnh : M'.2.2.2.2 = []) (hnr : M'.2.2.2.1 = none) (hni : M'.1.name = "<init>") (hd : decode M.2.1 pc = .ok (.invokespecial idx, 3)) (hM : zHas M') (hsig : zSig M'.1 5) (hen : Nat.ble (lg_sl (.ref b :: [a1, a2, a3, a4, a5])).length M'.2.2.1 = true) (hw : Nat.ble (rest.map fun v => v.category).sum 8 = true) (d' mc ms : Nat) (hd' : d' + 1 ≤ d) (hc : mc ≤ rc) (hs : ms ≤ rs) (hl : Cond.methodLinkNest M.1.cls idx M'.1 host ∈ lw_tbl) (hin : Cond.instanceMethod M'.1 ∈ lw_all) (k : zW G M' d' mc ms 0 (zent (.ref b :: [a1, a2, a3, a4, a5])) [] ah (zK G M d (rc - mc) (rs - ms) pc 3 ls rest Q)) : zW G M d rc rs pc ls (a5 :: a4 :: a3 :: a2 :: a1 :: .ref b :: rest) ah Q := zr_initN hnh hnr hni hd hM hsig rfl (z_ble hen) (z_ble hw) hd' hc hs hl hin rfl k
theorem zc_s6 {a1 a2 a3 a4 a5 a6 : Value} (hd : decode M.2.1 pc = .ok (.invokestatic idx, 3)) (hM : zHas M') (hsig : zSig M'.1 6) (hen : Nat.ble (lg_sl [a1, a2, a3, a4, a5, a6]).length M'.2.2.1 = true) (hw : Nat.ble (rest.map fun v => v.category).sum 8 = true) (d' mc ms : Nat) (hd' : d' + 1 ≤ d) (hc : mc ≤ rc) (hs : ms ≤ rs) (hl : Cond.methodLink M.1.cls idx M'.1 ∈ lw_all) (hst : Cond.static M'.1 ∈ lw_all) (k : zW G M' d' mc ms 0 (zent [a1, a2, a3, a4, a5, a6]) [] ah (zK G M d (rc - mc) (rs - ms) pc 3 ls rest Q)) : zW G M d rc rs pc ls (a6 :: a5 :: a4 :: a3 :: a2 :: a1 :: rest) ah Q := zr_static hd hM hsig rfl (z_ble hen) (z_ble hw) hd' hc hs hl hst rfl k
theorem zc_sN6 {a1 a2 a3 a4 a5 a6 : Value} {host : String} (hnh : M'.2.2.2.2 = []) (hd : decode M.2.1 pc = .ok (.invokestatic idx, 3)) (hM : zHas M') (hsig : zSig M'.1 6) (hen : Nat.ble (lg_sl [a1, a2, a3, a4, a5, a6]).length M'.2.2.1 = true) (hw : Nat.ble (rest.map fun v => v.category).sum 8 = true) (d' mc ms : Nat) (hd' : d' + 1 ≤ d) (hc : mc ≤ rc) (hs : ms ≤ rs) (hl : Cond.methodLinkNest M.1.cls idx M'.1 host ∈ lw_tbl) (hst : Cond.static M'.1 ∈ lw_all) (k : zW G M' d' mc ms 0 (zent [a1, a2, a3, a4, a5, a6]) [] ah (zK G M d (rc - mc) (rs - ms) pc 3 ls rest Q)) : zW G M d rc rs pc ls (a6 :: a5 :: a4 :: a3 :: a2 :: a1 :: rest) ah Q := zr_staticN hnh hd hM hsig rfl (z_ble hen) (z_ble hw) hd' hc hs hl hst rfl k
theorem zc_v6 {a1 a2 a3 a4 a5 a6 : Value} {b : Nat} {Cn : String} (hd : decode M.2.1 pc = .ok (.invokevirtual idx, 3)) (hM : zHas M') (hsig : zSig M'.1 6) (hen : Nat.ble (lg_sl (.ref b :: [a1, a2, a3, a4, a5, a6])).length M'.2.2.1 = true) (hw : Nat.ble (rest.map fun v => v.category).sum 8 = true) (d' mc ms : Nat) (hd' : d' + 1 ≤ d) (hc : mc ≤ rc) (hs : ms ≤ rs) (hl : Cond.methodLink M.1.cls idx M'.1 ∈ lw_all) (hin : Cond.instanceMethod M'.1 ∈ lw_all) (hse : Cond.selects Cn M'.1 M'.1 ∈ lw_all) (hr : zRc G ah b Cn) (k : zW G M' d' mc ms 0 (zent (.ref b :: [a1, a2, a3, a4, a5, a6])) [] ah (zK G M d (rc - mc) (rs - ms) pc 3 ls rest Q)) : zW G M d rc rs pc ls (a6 :: a5 :: a4 :: a3 :: a2 :: a1 :: .ref b :: rest) ah Q := zr_virt hd hM hsig rfl (z_ble hen) (z_ble hw) hd' hc hs hl hin hse rfl hr k
theorem zc_vN6 {a1 a2 a3 a4 a5 a6 : Value} {b : Nat} {Cn host : String} (hnh : M'.2.2.2.2 = []) (hd : decode M.2.1 pc = .ok (.invokevirtual idx, 3)) (hM : zHas M') (hsig : zSig M'.1 6) (hen : Nat.ble (lg_sl (.ref b :: [a1, a2, a3, a4, a5, a6])).length M'.2.2.1 = true) (hw : Nat.ble (rest.map fun v => v.category).sum 8 = true) (d' mc ms : Nat) (hd' : d' + 1 ≤ d) (hc : mc ≤ rc) (hs : ms ≤ rs) (hl : Cond.methodLinkNest M.1.cls idx M'.1 host ∈ lw_tbl) (hin : Cond.instanceMethod M'.1 ∈ lw_all) (hse : Cond.selects Cn M'.1 M'.1 ∈ lw_all) (hr : zRc G ah b Cn) (k : zW G M' d' mc ms 0 (zent (.ref b :: [a1, a2, a3, a4, a5, a6])) [] ah (zK G M d (rc - mc) (rs - ms) pc 3 ls rest Q)) : zW G M d rc rs pc ls (a6 :: a5 :: a4 :: a3 :: a2 :: a1 :: .ref b :: rest) ah Q := zr_virtN hnh hd hM hsig rfl (z_ble hen) (z_ble hw) hd' hc hs hl hin hse rfl hr k
theorem zc_i6 {a1 a2 a3 a4 a5 a6 : Value} {b : Nat} (hnh : M'.2.2.2.2 = []) (hnr : M'.2.2.2.1 = none) (hni : M'.1.name = "<init>") (hd : decode M.2.1 pc = .ok (.invokespecial idx, 3)) (hM : zHas M') (hsig : zSig M'.1 6) (hen : Nat.ble (lg_sl (.ref b :: [a1, a2, a3, a4, a5, a6])).length M'.2.2.1 = true) (hw : Nat.ble (rest.map fun v => v.category).sum 8 = true) (d' mc ms : Nat) (hd' : d' + 1 ≤ d) (hc : mc ≤ rc) (hs : ms ≤ rs) (hl : Cond.methodLink M.1.cls idx M'.1 ∈ lw_all) (hin : Cond.instanceMethod M'.1 ∈ lw_all) (k : zW G M' d' mc ms 0 (zent (.ref b :: [a1, a2, a3, a4, a5, a6])) [] ah (zK G M d (rc - mc) (rs - ms) pc 3 ls rest Q)) : zW G M d rc rs pc ls (a6 :: a5 :: a4 :: a3 :: a2 :: a1 :: .ref b :: rest) ah Q := zr_init hnh hnr hni hd hM hsig rfl (z_ble hen) (z_ble hw) hd' hc hs hl hin rfl k
theorem zc_iN6 {a1 a2 a3 a4 a5 a6 : Value} {b : Nat} {host : String} (hnh : M'.2.2.2.2 = []) (hnr : M'.2.2.2.1 = none) (hni : M'.1.name = "<init>") (hd : decode M.2.1 pc = .ok (.invokespecial idx, 3)) (hM : zHas M') (hsig : zSig M'.1 6) (hen : Nat.ble (lg_sl (.ref b :: [a1, a2, a3, a4, a5, a6])).length M'.2.2.1 = true) (hw : Nat.ble (rest.map fun v => v.category).sum 8 = true) (d' mc ms : Nat) (hd' : d' + 1 ≤ d) (hc : mc ≤ rc) (hs : ms ≤ rs) (hl : Cond.methodLinkNest M.1.cls idx M'.1 host ∈ lw_tbl) (hin : Cond.instanceMethod M'.1 ∈ lw_all) (k : zW G M' d' mc ms 0 (zent (.ref b :: [a1, a2, a3, a4, a5, a6])) [] ah (zK G M d (rc - mc) (rs - ms) pc 3 ls rest Q)) : zW G M d rc rs pc ls (a6 :: a5 :: a4 :: a3 :: a2 :: a1 :: .ref b :: rest) ah Q := zr_initN hnh hnr hni hd hM hsig rfl (z_ble hen) (z_ble hw) hd' hc hs hl hin rfl k
theorem zW_open {pc : Nat} {st : List Value} (n : Nat) (ls' : List (Option Value)) (h : ls ++ List.replicate n none = ls') (k : zW G M d rc rs pc ls' st ah Q) : zW G M d rc rs pc ls st ah Q := zW_ls (fun i v hv => by
  rw [← h, List.getElem?_append] at hv
  split at hv
  · exact hv
  · rw [List.getElem?_replicate] at hv
    split at hv <;> cases hv) k
variable {pc : Nat} {st : List Value} {v : Value}
theorem zs1_0 {a0 : Option Value} (k : zW G M d rc rs pc [some v] st ah Q) : zW G M d rc rs pc (z_st1 [a0] 0 v) st ah Q := k
theorem zs2_0 {a0 a1 : Option Value} (k : zW G M d rc rs pc [some v, a1] st ah Q) : zW G M d rc rs pc (z_st1 [a0, a1] 0 v) st ah Q := k
theorem zt2_0 {a0 a1 : Option Value} (k : zW G M d rc rs pc [some v, none] st ah Q) : zW G M d rc rs pc (z_st2 [a0, a1] 0 v) st ah Q := k
theorem zs2_1 {a0 a1 : Option Value} (h : z_c2 (some a0) = false) (k : zW G M d rc rs pc [a0, some v] st ah Q) : zW G M d rc rs pc (z_st1 [a0, a1] 1 v) st ah Q := by
  have e : z_st1 [a0, a1] 1 v = [a0, some v] := by
    show (match z_c2 (some a0) with | true => _ | false => _ : List (Option Value)).set 1 (some v) = _
    rw [h]
    rfl
  rw [e]
  exact k
theorem zs3_0 {a0 a1 a2 : Option Value} (k : zW G M d rc rs pc [some v, a1, a2] st ah Q) : zW G M d rc rs pc (z_st1 [a0, a1, a2] 0 v) st ah Q := k
theorem zt3_0 {a0 a1 a2 : Option Value} (k : zW G M d rc rs pc [some v, none, a2] st ah Q) : zW G M d rc rs pc (z_st2 [a0, a1, a2] 0 v) st ah Q := k
theorem zs3_1 {a0 a1 a2 : Option Value} (h : z_c2 (some a0) = false) (k : zW G M d rc rs pc [a0, some v, a2] st ah Q) : zW G M d rc rs pc (z_st1 [a0, a1, a2] 1 v) st ah Q := by
  have e : z_st1 [a0, a1, a2] 1 v = [a0, some v, a2] := by
    show (match z_c2 (some a0) with | true => _ | false => _ : List (Option Value)).set 1 (some v) = _
    rw [h]
    rfl
  rw [e]
  exact k
theorem zt3_1 {a0 a1 a2 : Option Value} (h : z_c2 (some a0) = false) (k : zW G M d rc rs pc [a0, some v, none] st ah Q) : zW G M d rc rs pc (z_st2 [a0, a1, a2] 1 v) st ah Q := by
  have e : z_st2 [a0, a1, a2] 1 v = [a0, some v, none] := by
    show ((match z_c2 (some a0) with | true => _ | false => _ : List (Option Value)).set 1 (some v)).set 2 none = _
    rw [h]
    rfl
  rw [e]
  exact k
theorem zs3_2 {a0 a1 a2 : Option Value} (h : z_c2 (some a1) = false) (k : zW G M d rc rs pc [a0, a1, some v] st ah Q) : zW G M d rc rs pc (z_st1 [a0, a1, a2] 2 v) st ah Q := by
  have e : z_st1 [a0, a1, a2] 2 v = [a0, a1, some v] := by
    show (match z_c2 (some a1) with | true => _ | false => _ : List (Option Value)).set 2 (some v) = _
    rw [h]
    rfl
  rw [e]
  exact k
theorem zs4_0 {a0 a1 a2 a3 : Option Value} (k : zW G M d rc rs pc [some v, a1, a2, a3] st ah Q) : zW G M d rc rs pc (z_st1 [a0, a1, a2, a3] 0 v) st ah Q := k
theorem zt4_0 {a0 a1 a2 a3 : Option Value} (k : zW G M d rc rs pc [some v, none, a2, a3] st ah Q) : zW G M d rc rs pc (z_st2 [a0, a1, a2, a3] 0 v) st ah Q := k
theorem zs4_1 {a0 a1 a2 a3 : Option Value} (h : z_c2 (some a0) = false) (k : zW G M d rc rs pc [a0, some v, a2, a3] st ah Q) : zW G M d rc rs pc (z_st1 [a0, a1, a2, a3] 1 v) st ah Q := by
  have e : z_st1 [a0, a1, a2, a3] 1 v = [a0, some v, a2, a3] := by
    show (match z_c2 (some a0) with | true => _ | false => _ : List (Option Value)).set 1 (some v) = _
    rw [h]
    rfl
  rw [e]
  exact k
theorem zt4_1 {a0 a1 a2 a3 : Option Value} (h : z_c2 (some a0) = false) (k : zW G M d rc rs pc [a0, some v, none, a3] st ah Q) : zW G M d rc rs pc (z_st2 [a0, a1, a2, a3] 1 v) st ah Q := by
  have e : z_st2 [a0, a1, a2, a3] 1 v = [a0, some v, none, a3] := by
    show ((match z_c2 (some a0) with | true => _ | false => _ : List (Option Value)).set 1 (some v)).set 2 none = _
    rw [h]
    rfl
  rw [e]
  exact k
theorem zs4_2 {a0 a1 a2 a3 : Option Value} (h : z_c2 (some a1) = false) (k : zW G M d rc rs pc [a0, a1, some v, a3] st ah Q) : zW G M d rc rs pc (z_st1 [a0, a1, a2, a3] 2 v) st ah Q := by
  have e : z_st1 [a0, a1, a2, a3] 2 v = [a0, a1, some v, a3] := by
    show (match z_c2 (some a1) with | true => _ | false => _ : List (Option Value)).set 2 (some v) = _
    rw [h]
    rfl
  rw [e]
  exact k
theorem zt4_2 {a0 a1 a2 a3 : Option Value} (h : z_c2 (some a1) = false) (k : zW G M d rc rs pc [a0, a1, some v, none] st ah Q) : zW G M d rc rs pc (z_st2 [a0, a1, a2, a3] 2 v) st ah Q := by
  have e : z_st2 [a0, a1, a2, a3] 2 v = [a0, a1, some v, none] := by
    show ((match z_c2 (some a1) with | true => _ | false => _ : List (Option Value)).set 2 (some v)).set 3 none = _
    rw [h]
    rfl
  rw [e]
  exact k
theorem zs4_3 {a0 a1 a2 a3 : Option Value} (h : z_c2 (some a2) = false) (k : zW G M d rc rs pc [a0, a1, a2, some v] st ah Q) : zW G M d rc rs pc (z_st1 [a0, a1, a2, a3] 3 v) st ah Q := by
  have e : z_st1 [a0, a1, a2, a3] 3 v = [a0, a1, a2, some v] := by
    show (match z_c2 (some a2) with | true => _ | false => _ : List (Option Value)).set 3 (some v) = _
    rw [h]
    rfl
  rw [e]
  exact k
theorem zs5_0 {a0 a1 a2 a3 a4 : Option Value} (k : zW G M d rc rs pc [some v, a1, a2, a3, a4] st ah Q) : zW G M d rc rs pc (z_st1 [a0, a1, a2, a3, a4] 0 v) st ah Q := k
theorem zt5_0 {a0 a1 a2 a3 a4 : Option Value} (k : zW G M d rc rs pc [some v, none, a2, a3, a4] st ah Q) : zW G M d rc rs pc (z_st2 [a0, a1, a2, a3, a4] 0 v) st ah Q := k
theorem zs5_1 {a0 a1 a2 a3 a4 : Option Value} (h : z_c2 (some a0) = false) (k : zW G M d rc rs pc [a0, some v, a2, a3, a4] st ah Q) : zW G M d rc rs pc (z_st1 [a0, a1, a2, a3, a4] 1 v) st ah Q := by
  have e : z_st1 [a0, a1, a2, a3, a4] 1 v = [a0, some v, a2, a3, a4] := by
    show (match z_c2 (some a0) with | true => _ | false => _ : List (Option Value)).set 1 (some v) = _
    rw [h]
    rfl
  rw [e]
  exact k
theorem zt5_1 {a0 a1 a2 a3 a4 : Option Value} (h : z_c2 (some a0) = false) (k : zW G M d rc rs pc [a0, some v, none, a3, a4] st ah Q) : zW G M d rc rs pc (z_st2 [a0, a1, a2, a3, a4] 1 v) st ah Q := by
  have e : z_st2 [a0, a1, a2, a3, a4] 1 v = [a0, some v, none, a3, a4] := by
    show ((match z_c2 (some a0) with | true => _ | false => _ : List (Option Value)).set 1 (some v)).set 2 none = _
    rw [h]
    rfl
  rw [e]
  exact k
theorem zs5_2 {a0 a1 a2 a3 a4 : Option Value} (h : z_c2 (some a1) = false) (k : zW G M d rc rs pc [a0, a1, some v, a3, a4] st ah Q) : zW G M d rc rs pc (z_st1 [a0, a1, a2, a3, a4] 2 v) st ah Q := by
  have e : z_st1 [a0, a1, a2, a3, a4] 2 v = [a0, a1, some v, a3, a4] := by
    show (match z_c2 (some a1) with | true => _ | false => _ : List (Option Value)).set 2 (some v) = _
    rw [h]
    rfl
  rw [e]
  exact k
theorem zt5_2 {a0 a1 a2 a3 a4 : Option Value} (h : z_c2 (some a1) = false) (k : zW G M d rc rs pc [a0, a1, some v, none, a4] st ah Q) : zW G M d rc rs pc (z_st2 [a0, a1, a2, a3, a4] 2 v) st ah Q := by
  have e : z_st2 [a0, a1, a2, a3, a4] 2 v = [a0, a1, some v, none, a4] := by
    show ((match z_c2 (some a1) with | true => _ | false => _ : List (Option Value)).set 2 (some v)).set 3 none = _
    rw [h]
    rfl
  rw [e]
  exact k
theorem zs5_3 {a0 a1 a2 a3 a4 : Option Value} (h : z_c2 (some a2) = false) (k : zW G M d rc rs pc [a0, a1, a2, some v, a4] st ah Q) : zW G M d rc rs pc (z_st1 [a0, a1, a2, a3, a4] 3 v) st ah Q := by
  have e : z_st1 [a0, a1, a2, a3, a4] 3 v = [a0, a1, a2, some v, a4] := by
    show (match z_c2 (some a2) with | true => _ | false => _ : List (Option Value)).set 3 (some v) = _
    rw [h]
    rfl
  rw [e]
  exact k
theorem zt5_3 {a0 a1 a2 a3 a4 : Option Value} (h : z_c2 (some a2) = false) (k : zW G M d rc rs pc [a0, a1, a2, some v, none] st ah Q) : zW G M d rc rs pc (z_st2 [a0, a1, a2, a3, a4] 3 v) st ah Q := by
  have e : z_st2 [a0, a1, a2, a3, a4] 3 v = [a0, a1, a2, some v, none] := by
    show ((match z_c2 (some a2) with | true => _ | false => _ : List (Option Value)).set 3 (some v)).set 4 none = _
    rw [h]
    rfl
  rw [e]
  exact k
theorem zs5_4 {a0 a1 a2 a3 a4 : Option Value} (h : z_c2 (some a3) = false) (k : zW G M d rc rs pc [a0, a1, a2, a3, some v] st ah Q) : zW G M d rc rs pc (z_st1 [a0, a1, a2, a3, a4] 4 v) st ah Q := by
  have e : z_st1 [a0, a1, a2, a3, a4] 4 v = [a0, a1, a2, a3, some v] := by
    show (match z_c2 (some a3) with | true => _ | false => _ : List (Option Value)).set 4 (some v) = _
    rw [h]
    rfl
  rw [e]
  exact k
theorem zs6_0 {a0 a1 a2 a3 a4 a5 : Option Value} (k : zW G M d rc rs pc [some v, a1, a2, a3, a4, a5] st ah Q) : zW G M d rc rs pc (z_st1 [a0, a1, a2, a3, a4, a5] 0 v) st ah Q := k
theorem zt6_0 {a0 a1 a2 a3 a4 a5 : Option Value} (k : zW G M d rc rs pc [some v, none, a2, a3, a4, a5] st ah Q) : zW G M d rc rs pc (z_st2 [a0, a1, a2, a3, a4, a5] 0 v) st ah Q := k
theorem zs6_1 {a0 a1 a2 a3 a4 a5 : Option Value} (h : z_c2 (some a0) = false) (k : zW G M d rc rs pc [a0, some v, a2, a3, a4, a5] st ah Q) : zW G M d rc rs pc (z_st1 [a0, a1, a2, a3, a4, a5] 1 v) st ah Q := by
  have e : z_st1 [a0, a1, a2, a3, a4, a5] 1 v = [a0, some v, a2, a3, a4, a5] := by
    show (match z_c2 (some a0) with | true => _ | false => _ : List (Option Value)).set 1 (some v) = _
    rw [h]
    rfl
  rw [e]
  exact k
theorem zt6_1 {a0 a1 a2 a3 a4 a5 : Option Value} (h : z_c2 (some a0) = false) (k : zW G M d rc rs pc [a0, some v, none, a3, a4, a5] st ah Q) : zW G M d rc rs pc (z_st2 [a0, a1, a2, a3, a4, a5] 1 v) st ah Q := by
  have e : z_st2 [a0, a1, a2, a3, a4, a5] 1 v = [a0, some v, none, a3, a4, a5] := by
    show ((match z_c2 (some a0) with | true => _ | false => _ : List (Option Value)).set 1 (some v)).set 2 none = _
    rw [h]
    rfl
  rw [e]
  exact k
theorem zs6_2 {a0 a1 a2 a3 a4 a5 : Option Value} (h : z_c2 (some a1) = false) (k : zW G M d rc rs pc [a0, a1, some v, a3, a4, a5] st ah Q) : zW G M d rc rs pc (z_st1 [a0, a1, a2, a3, a4, a5] 2 v) st ah Q := by
  have e : z_st1 [a0, a1, a2, a3, a4, a5] 2 v = [a0, a1, some v, a3, a4, a5] := by
    show (match z_c2 (some a1) with | true => _ | false => _ : List (Option Value)).set 2 (some v) = _
    rw [h]
    rfl
  rw [e]
  exact k
theorem zt6_2 {a0 a1 a2 a3 a4 a5 : Option Value} (h : z_c2 (some a1) = false) (k : zW G M d rc rs pc [a0, a1, some v, none, a4, a5] st ah Q) : zW G M d rc rs pc (z_st2 [a0, a1, a2, a3, a4, a5] 2 v) st ah Q := by
  have e : z_st2 [a0, a1, a2, a3, a4, a5] 2 v = [a0, a1, some v, none, a4, a5] := by
    show ((match z_c2 (some a1) with | true => _ | false => _ : List (Option Value)).set 2 (some v)).set 3 none = _
    rw [h]
    rfl
  rw [e]
  exact k
theorem zs6_3 {a0 a1 a2 a3 a4 a5 : Option Value} (h : z_c2 (some a2) = false) (k : zW G M d rc rs pc [a0, a1, a2, some v, a4, a5] st ah Q) : zW G M d rc rs pc (z_st1 [a0, a1, a2, a3, a4, a5] 3 v) st ah Q := by
  have e : z_st1 [a0, a1, a2, a3, a4, a5] 3 v = [a0, a1, a2, some v, a4, a5] := by
    show (match z_c2 (some a2) with | true => _ | false => _ : List (Option Value)).set 3 (some v) = _
    rw [h]
    rfl
  rw [e]
  exact k
theorem zt6_3 {a0 a1 a2 a3 a4 a5 : Option Value} (h : z_c2 (some a2) = false) (k : zW G M d rc rs pc [a0, a1, a2, some v, none, a5] st ah Q) : zW G M d rc rs pc (z_st2 [a0, a1, a2, a3, a4, a5] 3 v) st ah Q := by
  have e : z_st2 [a0, a1, a2, a3, a4, a5] 3 v = [a0, a1, a2, some v, none, a5] := by
    show ((match z_c2 (some a2) with | true => _ | false => _ : List (Option Value)).set 3 (some v)).set 4 none = _
    rw [h]
    rfl
  rw [e]
  exact k
theorem zs6_4 {a0 a1 a2 a3 a4 a5 : Option Value} (h : z_c2 (some a3) = false) (k : zW G M d rc rs pc [a0, a1, a2, a3, some v, a5] st ah Q) : zW G M d rc rs pc (z_st1 [a0, a1, a2, a3, a4, a5] 4 v) st ah Q := by
  have e : z_st1 [a0, a1, a2, a3, a4, a5] 4 v = [a0, a1, a2, a3, some v, a5] := by
    show (match z_c2 (some a3) with | true => _ | false => _ : List (Option Value)).set 4 (some v) = _
    rw [h]
    rfl
  rw [e]
  exact k
theorem zt6_4 {a0 a1 a2 a3 a4 a5 : Option Value} (h : z_c2 (some a3) = false) (k : zW G M d rc rs pc [a0, a1, a2, a3, some v, none] st ah Q) : zW G M d rc rs pc (z_st2 [a0, a1, a2, a3, a4, a5] 4 v) st ah Q := by
  have e : z_st2 [a0, a1, a2, a3, a4, a5] 4 v = [a0, a1, a2, a3, some v, none] := by
    show ((match z_c2 (some a3) with | true => _ | false => _ : List (Option Value)).set 4 (some v)).set 5 none = _
    rw [h]
    rfl
  rw [e]
  exact k
theorem zs6_5 {a0 a1 a2 a3 a4 a5 : Option Value} (h : z_c2 (some a4) = false) (k : zW G M d rc rs pc [a0, a1, a2, a3, a4, some v] st ah Q) : zW G M d rc rs pc (z_st1 [a0, a1, a2, a3, a4, a5] 5 v) st ah Q := by
  have e : z_st1 [a0, a1, a2, a3, a4, a5] 5 v = [a0, a1, a2, a3, a4, some v] := by
    show (match z_c2 (some a4) with | true => _ | false => _ : List (Option Value)).set 5 (some v) = _
    rw [h]
    rfl
  rw [e]
  exact k
theorem zs7_0 {a0 a1 a2 a3 a4 a5 a6 : Option Value} (k : zW G M d rc rs pc [some v, a1, a2, a3, a4, a5, a6] st ah Q) : zW G M d rc rs pc (z_st1 [a0, a1, a2, a3, a4, a5, a6] 0 v) st ah Q := k
theorem zt7_0 {a0 a1 a2 a3 a4 a5 a6 : Option Value} (k : zW G M d rc rs pc [some v, none, a2, a3, a4, a5, a6] st ah Q) : zW G M d rc rs pc (z_st2 [a0, a1, a2, a3, a4, a5, a6] 0 v) st ah Q := k
theorem zs7_1 {a0 a1 a2 a3 a4 a5 a6 : Option Value} (h : z_c2 (some a0) = false) (k : zW G M d rc rs pc [a0, some v, a2, a3, a4, a5, a6] st ah Q) : zW G M d rc rs pc (z_st1 [a0, a1, a2, a3, a4, a5, a6] 1 v) st ah Q := by
  have e : z_st1 [a0, a1, a2, a3, a4, a5, a6] 1 v = [a0, some v, a2, a3, a4, a5, a6] := by
    show (match z_c2 (some a0) with | true => _ | false => _ : List (Option Value)).set 1 (some v) = _
    rw [h]
    rfl
  rw [e]
  exact k
theorem zt7_1 {a0 a1 a2 a3 a4 a5 a6 : Option Value} (h : z_c2 (some a0) = false) (k : zW G M d rc rs pc [a0, some v, none, a3, a4, a5, a6] st ah Q) : zW G M d rc rs pc (z_st2 [a0, a1, a2, a3, a4, a5, a6] 1 v) st ah Q := by
  have e : z_st2 [a0, a1, a2, a3, a4, a5, a6] 1 v = [a0, some v, none, a3, a4, a5, a6] := by
    show ((match z_c2 (some a0) with | true => _ | false => _ : List (Option Value)).set 1 (some v)).set 2 none = _
    rw [h]
    rfl
  rw [e]
  exact k
theorem zs7_2 {a0 a1 a2 a3 a4 a5 a6 : Option Value} (h : z_c2 (some a1) = false) (k : zW G M d rc rs pc [a0, a1, some v, a3, a4, a5, a6] st ah Q) : zW G M d rc rs pc (z_st1 [a0, a1, a2, a3, a4, a5, a6] 2 v) st ah Q := by
  have e : z_st1 [a0, a1, a2, a3, a4, a5, a6] 2 v = [a0, a1, some v, a3, a4, a5, a6] := by
    show (match z_c2 (some a1) with | true => _ | false => _ : List (Option Value)).set 2 (some v) = _
    rw [h]
    rfl
  rw [e]
  exact k
theorem zt7_2 {a0 a1 a2 a3 a4 a5 a6 : Option Value} (h : z_c2 (some a1) = false) (k : zW G M d rc rs pc [a0, a1, some v, none, a4, a5, a6] st ah Q) : zW G M d rc rs pc (z_st2 [a0, a1, a2, a3, a4, a5, a6] 2 v) st ah Q := by
  have e : z_st2 [a0, a1, a2, a3, a4, a5, a6] 2 v = [a0, a1, some v, none, a4, a5, a6] := by
    show ((match z_c2 (some a1) with | true => _ | false => _ : List (Option Value)).set 2 (some v)).set 3 none = _
    rw [h]
    rfl
  rw [e]
  exact k
theorem zs7_3 {a0 a1 a2 a3 a4 a5 a6 : Option Value} (h : z_c2 (some a2) = false) (k : zW G M d rc rs pc [a0, a1, a2, some v, a4, a5, a6] st ah Q) : zW G M d rc rs pc (z_st1 [a0, a1, a2, a3, a4, a5, a6] 3 v) st ah Q := by
  have e : z_st1 [a0, a1, a2, a3, a4, a5, a6] 3 v = [a0, a1, a2, some v, a4, a5, a6] := by
    show (match z_c2 (some a2) with | true => _ | false => _ : List (Option Value)).set 3 (some v) = _
    rw [h]
    rfl
  rw [e]
  exact k
theorem zt7_3 {a0 a1 a2 a3 a4 a5 a6 : Option Value} (h : z_c2 (some a2) = false) (k : zW G M d rc rs pc [a0, a1, a2, some v, none, a5, a6] st ah Q) : zW G M d rc rs pc (z_st2 [a0, a1, a2, a3, a4, a5, a6] 3 v) st ah Q := by
  have e : z_st2 [a0, a1, a2, a3, a4, a5, a6] 3 v = [a0, a1, a2, some v, none, a5, a6] := by
    show ((match z_c2 (some a2) with | true => _ | false => _ : List (Option Value)).set 3 (some v)).set 4 none = _
    rw [h]
    rfl
  rw [e]
  exact k
theorem zs7_4 {a0 a1 a2 a3 a4 a5 a6 : Option Value} (h : z_c2 (some a3) = false) (k : zW G M d rc rs pc [a0, a1, a2, a3, some v, a5, a6] st ah Q) : zW G M d rc rs pc (z_st1 [a0, a1, a2, a3, a4, a5, a6] 4 v) st ah Q := by
  have e : z_st1 [a0, a1, a2, a3, a4, a5, a6] 4 v = [a0, a1, a2, a3, some v, a5, a6] := by
    show (match z_c2 (some a3) with | true => _ | false => _ : List (Option Value)).set 4 (some v) = _
    rw [h]
    rfl
  rw [e]
  exact k
theorem zt7_4 {a0 a1 a2 a3 a4 a5 a6 : Option Value} (h : z_c2 (some a3) = false) (k : zW G M d rc rs pc [a0, a1, a2, a3, some v, none, a6] st ah Q) : zW G M d rc rs pc (z_st2 [a0, a1, a2, a3, a4, a5, a6] 4 v) st ah Q := by
  have e : z_st2 [a0, a1, a2, a3, a4, a5, a6] 4 v = [a0, a1, a2, a3, some v, none, a6] := by
    show ((match z_c2 (some a3) with | true => _ | false => _ : List (Option Value)).set 4 (some v)).set 5 none = _
    rw [h]
    rfl
  rw [e]
  exact k
theorem zs7_5 {a0 a1 a2 a3 a4 a5 a6 : Option Value} (h : z_c2 (some a4) = false) (k : zW G M d rc rs pc [a0, a1, a2, a3, a4, some v, a6] st ah Q) : zW G M d rc rs pc (z_st1 [a0, a1, a2, a3, a4, a5, a6] 5 v) st ah Q := by
  have e : z_st1 [a0, a1, a2, a3, a4, a5, a6] 5 v = [a0, a1, a2, a3, a4, some v, a6] := by
    show (match z_c2 (some a4) with | true => _ | false => _ : List (Option Value)).set 5 (some v) = _
    rw [h]
    rfl
  rw [e]
  exact k
theorem zt7_5 {a0 a1 a2 a3 a4 a5 a6 : Option Value} (h : z_c2 (some a4) = false) (k : zW G M d rc rs pc [a0, a1, a2, a3, a4, some v, none] st ah Q) : zW G M d rc rs pc (z_st2 [a0, a1, a2, a3, a4, a5, a6] 5 v) st ah Q := by
  have e : z_st2 [a0, a1, a2, a3, a4, a5, a6] 5 v = [a0, a1, a2, a3, a4, some v, none] := by
    show ((match z_c2 (some a4) with | true => _ | false => _ : List (Option Value)).set 5 (some v)).set 6 none = _
    rw [h]
    rfl
  rw [e]
  exact k
theorem zs7_6 {a0 a1 a2 a3 a4 a5 a6 : Option Value} (h : z_c2 (some a5) = false) (k : zW G M d rc rs pc [a0, a1, a2, a3, a4, a5, some v] st ah Q) : zW G M d rc rs pc (z_st1 [a0, a1, a2, a3, a4, a5, a6] 6 v) st ah Q := by
  have e : z_st1 [a0, a1, a2, a3, a4, a5, a6] 6 v = [a0, a1, a2, a3, a4, a5, some v] := by
    show (match z_c2 (some a5) with | true => _ | false => _ : List (Option Value)).set 6 (some v) = _
    rw [h]
    rfl
  rw [e]
  exact k
theorem zs8_0 {a0 a1 a2 a3 a4 a5 a6 a7 : Option Value} (k : zW G M d rc rs pc [some v, a1, a2, a3, a4, a5, a6, a7] st ah Q) : zW G M d rc rs pc (z_st1 [a0, a1, a2, a3, a4, a5, a6, a7] 0 v) st ah Q := k
theorem zt8_0 {a0 a1 a2 a3 a4 a5 a6 a7 : Option Value} (k : zW G M d rc rs pc [some v, none, a2, a3, a4, a5, a6, a7] st ah Q) : zW G M d rc rs pc (z_st2 [a0, a1, a2, a3, a4, a5, a6, a7] 0 v) st ah Q := k
theorem zs8_1 {a0 a1 a2 a3 a4 a5 a6 a7 : Option Value} (h : z_c2 (some a0) = false) (k : zW G M d rc rs pc [a0, some v, a2, a3, a4, a5, a6, a7] st ah Q) : zW G M d rc rs pc (z_st1 [a0, a1, a2, a3, a4, a5, a6, a7] 1 v) st ah Q := by
  have e : z_st1 [a0, a1, a2, a3, a4, a5, a6, a7] 1 v = [a0, some v, a2, a3, a4, a5, a6, a7] := by
    show (match z_c2 (some a0) with | true => _ | false => _ : List (Option Value)).set 1 (some v) = _
    rw [h]
    rfl
  rw [e]
  exact k
theorem zt8_1 {a0 a1 a2 a3 a4 a5 a6 a7 : Option Value} (h : z_c2 (some a0) = false) (k : zW G M d rc rs pc [a0, some v, none, a3, a4, a5, a6, a7] st ah Q) : zW G M d rc rs pc (z_st2 [a0, a1, a2, a3, a4, a5, a6, a7] 1 v) st ah Q := by
  have e : z_st2 [a0, a1, a2, a3, a4, a5, a6, a7] 1 v = [a0, some v, none, a3, a4, a5, a6, a7] := by
    show ((match z_c2 (some a0) with | true => _ | false => _ : List (Option Value)).set 1 (some v)).set 2 none = _
    rw [h]
    rfl
  rw [e]
  exact k
theorem zs8_2 {a0 a1 a2 a3 a4 a5 a6 a7 : Option Value} (h : z_c2 (some a1) = false) (k : zW G M d rc rs pc [a0, a1, some v, a3, a4, a5, a6, a7] st ah Q) : zW G M d rc rs pc (z_st1 [a0, a1, a2, a3, a4, a5, a6, a7] 2 v) st ah Q := by
  have e : z_st1 [a0, a1, a2, a3, a4, a5, a6, a7] 2 v = [a0, a1, some v, a3, a4, a5, a6, a7] := by
    show (match z_c2 (some a1) with | true => _ | false => _ : List (Option Value)).set 2 (some v) = _
    rw [h]
    rfl
  rw [e]
  exact k
theorem zt8_2 {a0 a1 a2 a3 a4 a5 a6 a7 : Option Value} (h : z_c2 (some a1) = false) (k : zW G M d rc rs pc [a0, a1, some v, none, a4, a5, a6, a7] st ah Q) : zW G M d rc rs pc (z_st2 [a0, a1, a2, a3, a4, a5, a6, a7] 2 v) st ah Q := by
  have e : z_st2 [a0, a1, a2, a3, a4, a5, a6, a7] 2 v = [a0, a1, some v, none, a4, a5, a6, a7] := by
    show ((match z_c2 (some a1) with | true => _ | false => _ : List (Option Value)).set 2 (some v)).set 3 none = _
    rw [h]
    rfl
  rw [e]
  exact k
theorem zs8_3 {a0 a1 a2 a3 a4 a5 a6 a7 : Option Value} (h : z_c2 (some a2) = false) (k : zW G M d rc rs pc [a0, a1, a2, some v, a4, a5, a6, a7] st ah Q) : zW G M d rc rs pc (z_st1 [a0, a1, a2, a3, a4, a5, a6, a7] 3 v) st ah Q := by
  have e : z_st1 [a0, a1, a2, a3, a4, a5, a6, a7] 3 v = [a0, a1, a2, some v, a4, a5, a6, a7] := by
    show (match z_c2 (some a2) with | true => _ | false => _ : List (Option Value)).set 3 (some v) = _
    rw [h]
    rfl
  rw [e]
  exact k
theorem zt8_3 {a0 a1 a2 a3 a4 a5 a6 a7 : Option Value} (h : z_c2 (some a2) = false) (k : zW G M d rc rs pc [a0, a1, a2, some v, none, a5, a6, a7] st ah Q) : zW G M d rc rs pc (z_st2 [a0, a1, a2, a3, a4, a5, a6, a7] 3 v) st ah Q := by
  have e : z_st2 [a0, a1, a2, a3, a4, a5, a6, a7] 3 v = [a0, a1, a2, some v, none, a5, a6, a7] := by
    show ((match z_c2 (some a2) with | true => _ | false => _ : List (Option Value)).set 3 (some v)).set 4 none = _
    rw [h]
    rfl
  rw [e]
  exact k
theorem zs8_4 {a0 a1 a2 a3 a4 a5 a6 a7 : Option Value} (h : z_c2 (some a3) = false) (k : zW G M d rc rs pc [a0, a1, a2, a3, some v, a5, a6, a7] st ah Q) : zW G M d rc rs pc (z_st1 [a0, a1, a2, a3, a4, a5, a6, a7] 4 v) st ah Q := by
  have e : z_st1 [a0, a1, a2, a3, a4, a5, a6, a7] 4 v = [a0, a1, a2, a3, some v, a5, a6, a7] := by
    show (match z_c2 (some a3) with | true => _ | false => _ : List (Option Value)).set 4 (some v) = _
    rw [h]
    rfl
  rw [e]
  exact k
theorem zt8_4 {a0 a1 a2 a3 a4 a5 a6 a7 : Option Value} (h : z_c2 (some a3) = false) (k : zW G M d rc rs pc [a0, a1, a2, a3, some v, none, a6, a7] st ah Q) : zW G M d rc rs pc (z_st2 [a0, a1, a2, a3, a4, a5, a6, a7] 4 v) st ah Q := by
  have e : z_st2 [a0, a1, a2, a3, a4, a5, a6, a7] 4 v = [a0, a1, a2, a3, some v, none, a6, a7] := by
    show ((match z_c2 (some a3) with | true => _ | false => _ : List (Option Value)).set 4 (some v)).set 5 none = _
    rw [h]
    rfl
  rw [e]
  exact k
theorem zs8_5 {a0 a1 a2 a3 a4 a5 a6 a7 : Option Value} (h : z_c2 (some a4) = false) (k : zW G M d rc rs pc [a0, a1, a2, a3, a4, some v, a6, a7] st ah Q) : zW G M d rc rs pc (z_st1 [a0, a1, a2, a3, a4, a5, a6, a7] 5 v) st ah Q := by
  have e : z_st1 [a0, a1, a2, a3, a4, a5, a6, a7] 5 v = [a0, a1, a2, a3, a4, some v, a6, a7] := by
    show (match z_c2 (some a4) with | true => _ | false => _ : List (Option Value)).set 5 (some v) = _
    rw [h]
    rfl
  rw [e]
  exact k
theorem zt8_5 {a0 a1 a2 a3 a4 a5 a6 a7 : Option Value} (h : z_c2 (some a4) = false) (k : zW G M d rc rs pc [a0, a1, a2, a3, a4, some v, none, a7] st ah Q) : zW G M d rc rs pc (z_st2 [a0, a1, a2, a3, a4, a5, a6, a7] 5 v) st ah Q := by
  have e : z_st2 [a0, a1, a2, a3, a4, a5, a6, a7] 5 v = [a0, a1, a2, a3, a4, some v, none, a7] := by
    show ((match z_c2 (some a4) with | true => _ | false => _ : List (Option Value)).set 5 (some v)).set 6 none = _
    rw [h]
    rfl
  rw [e]
  exact k
theorem zs8_6 {a0 a1 a2 a3 a4 a5 a6 a7 : Option Value} (h : z_c2 (some a5) = false) (k : zW G M d rc rs pc [a0, a1, a2, a3, a4, a5, some v, a7] st ah Q) : zW G M d rc rs pc (z_st1 [a0, a1, a2, a3, a4, a5, a6, a7] 6 v) st ah Q := by
  have e : z_st1 [a0, a1, a2, a3, a4, a5, a6, a7] 6 v = [a0, a1, a2, a3, a4, a5, some v, a7] := by
    show (match z_c2 (some a5) with | true => _ | false => _ : List (Option Value)).set 6 (some v) = _
    rw [h]
    rfl
  rw [e]
  exact k
theorem zt8_6 {a0 a1 a2 a3 a4 a5 a6 a7 : Option Value} (h : z_c2 (some a5) = false) (k : zW G M d rc rs pc [a0, a1, a2, a3, a4, a5, some v, none] st ah Q) : zW G M d rc rs pc (z_st2 [a0, a1, a2, a3, a4, a5, a6, a7] 6 v) st ah Q := by
  have e : z_st2 [a0, a1, a2, a3, a4, a5, a6, a7] 6 v = [a0, a1, a2, a3, a4, a5, some v, none] := by
    show ((match z_c2 (some a5) with | true => _ | false => _ : List (Option Value)).set 6 (some v)).set 7 none = _
    rw [h]
    rfl
  rw [e]
  exact k
theorem zs8_7 {a0 a1 a2 a3 a4 a5 a6 a7 : Option Value} (h : z_c2 (some a6) = false) (k : zW G M d rc rs pc [a0, a1, a2, a3, a4, a5, a6, some v] st ah Q) : zW G M d rc rs pc (z_st1 [a0, a1, a2, a3, a4, a5, a6, a7] 7 v) st ah Q := by
  have e : z_st1 [a0, a1, a2, a3, a4, a5, a6, a7] 7 v = [a0, a1, a2, a3, a4, a5, a6, some v] := by
    show (match z_c2 (some a6) with | true => _ | false => _ : List (Option Value)).set 7 (some v) = _
    rw [h]
    rfl
  rw [e]
  exact k
theorem zs9_0 {a0 a1 a2 a3 a4 a5 a6 a7 a8 : Option Value} (k : zW G M d rc rs pc [some v, a1, a2, a3, a4, a5, a6, a7, a8] st ah Q) : zW G M d rc rs pc (z_st1 [a0, a1, a2, a3, a4, a5, a6, a7, a8] 0 v) st ah Q := k
theorem zt9_0 {a0 a1 a2 a3 a4 a5 a6 a7 a8 : Option Value} (k : zW G M d rc rs pc [some v, none, a2, a3, a4, a5, a6, a7, a8] st ah Q) : zW G M d rc rs pc (z_st2 [a0, a1, a2, a3, a4, a5, a6, a7, a8] 0 v) st ah Q := k
theorem zs9_1 {a0 a1 a2 a3 a4 a5 a6 a7 a8 : Option Value} (h : z_c2 (some a0) = false) (k : zW G M d rc rs pc [a0, some v, a2, a3, a4, a5, a6, a7, a8] st ah Q) : zW G M d rc rs pc (z_st1 [a0, a1, a2, a3, a4, a5, a6, a7, a8] 1 v) st ah Q := by
  have e : z_st1 [a0, a1, a2, a3, a4, a5, a6, a7, a8] 1 v = [a0, some v, a2, a3, a4, a5, a6, a7, a8] := by
    show (match z_c2 (some a0) with | true => _ | false => _ : List (Option Value)).set 1 (some v) = _
    rw [h]
    rfl
  rw [e]
  exact k
theorem zt9_1 {a0 a1 a2 a3 a4 a5 a6 a7 a8 : Option Value} (h : z_c2 (some a0) = false) (k : zW G M d rc rs pc [a0, some v, none, a3, a4, a5, a6, a7, a8] st ah Q) : zW G M d rc rs pc (z_st2 [a0, a1, a2, a3, a4, a5, a6, a7, a8] 1 v) st ah Q := by
  have e : z_st2 [a0, a1, a2, a3, a4, a5, a6, a7, a8] 1 v = [a0, some v, none, a3, a4, a5, a6, a7, a8] := by
    show ((match z_c2 (some a0) with | true => _ | false => _ : List (Option Value)).set 1 (some v)).set 2 none = _
    rw [h]
    rfl
  rw [e]
  exact k
theorem zs9_2 {a0 a1 a2 a3 a4 a5 a6 a7 a8 : Option Value} (h : z_c2 (some a1) = false) (k : zW G M d rc rs pc [a0, a1, some v, a3, a4, a5, a6, a7, a8] st ah Q) : zW G M d rc rs pc (z_st1 [a0, a1, a2, a3, a4, a5, a6, a7, a8] 2 v) st ah Q := by
  have e : z_st1 [a0, a1, a2, a3, a4, a5, a6, a7, a8] 2 v = [a0, a1, some v, a3, a4, a5, a6, a7, a8] := by
    show (match z_c2 (some a1) with | true => _ | false => _ : List (Option Value)).set 2 (some v) = _
    rw [h]
    rfl
  rw [e]
  exact k
theorem zt9_2 {a0 a1 a2 a3 a4 a5 a6 a7 a8 : Option Value} (h : z_c2 (some a1) = false) (k : zW G M d rc rs pc [a0, a1, some v, none, a4, a5, a6, a7, a8] st ah Q) : zW G M d rc rs pc (z_st2 [a0, a1, a2, a3, a4, a5, a6, a7, a8] 2 v) st ah Q := by
  have e : z_st2 [a0, a1, a2, a3, a4, a5, a6, a7, a8] 2 v = [a0, a1, some v, none, a4, a5, a6, a7, a8] := by
    show ((match z_c2 (some a1) with | true => _ | false => _ : List (Option Value)).set 2 (some v)).set 3 none = _
    rw [h]
    rfl
  rw [e]
  exact k
theorem zs9_3 {a0 a1 a2 a3 a4 a5 a6 a7 a8 : Option Value} (h : z_c2 (some a2) = false) (k : zW G M d rc rs pc [a0, a1, a2, some v, a4, a5, a6, a7, a8] st ah Q) : zW G M d rc rs pc (z_st1 [a0, a1, a2, a3, a4, a5, a6, a7, a8] 3 v) st ah Q := by
  have e : z_st1 [a0, a1, a2, a3, a4, a5, a6, a7, a8] 3 v = [a0, a1, a2, some v, a4, a5, a6, a7, a8] := by
    show (match z_c2 (some a2) with | true => _ | false => _ : List (Option Value)).set 3 (some v) = _
    rw [h]
    rfl
  rw [e]
  exact k
theorem zt9_3 {a0 a1 a2 a3 a4 a5 a6 a7 a8 : Option Value} (h : z_c2 (some a2) = false) (k : zW G M d rc rs pc [a0, a1, a2, some v, none, a5, a6, a7, a8] st ah Q) : zW G M d rc rs pc (z_st2 [a0, a1, a2, a3, a4, a5, a6, a7, a8] 3 v) st ah Q := by
  have e : z_st2 [a0, a1, a2, a3, a4, a5, a6, a7, a8] 3 v = [a0, a1, a2, some v, none, a5, a6, a7, a8] := by
    show ((match z_c2 (some a2) with | true => _ | false => _ : List (Option Value)).set 3 (some v)).set 4 none = _
    rw [h]
    rfl
  rw [e]
  exact k
theorem zs9_4 {a0 a1 a2 a3 a4 a5 a6 a7 a8 : Option Value} (h : z_c2 (some a3) = false) (k : zW G M d rc rs pc [a0, a1, a2, a3, some v, a5, a6, a7, a8] st ah Q) : zW G M d rc rs pc (z_st1 [a0, a1, a2, a3, a4, a5, a6, a7, a8] 4 v) st ah Q := by
  have e : z_st1 [a0, a1, a2, a3, a4, a5, a6, a7, a8] 4 v = [a0, a1, a2, a3, some v, a5, a6, a7, a8] := by
    show (match z_c2 (some a3) with | true => _ | false => _ : List (Option Value)).set 4 (some v) = _
    rw [h]
    rfl
  rw [e]
  exact k
theorem zt9_4 {a0 a1 a2 a3 a4 a5 a6 a7 a8 : Option Value} (h : z_c2 (some a3) = false) (k : zW G M d rc rs pc [a0, a1, a2, a3, some v, none, a6, a7, a8] st ah Q) : zW G M d rc rs pc (z_st2 [a0, a1, a2, a3, a4, a5, a6, a7, a8] 4 v) st ah Q := by
  have e : z_st2 [a0, a1, a2, a3, a4, a5, a6, a7, a8] 4 v = [a0, a1, a2, a3, some v, none, a6, a7, a8] := by
    show ((match z_c2 (some a3) with | true => _ | false => _ : List (Option Value)).set 4 (some v)).set 5 none = _
    rw [h]
    rfl
  rw [e]
  exact k
theorem zs9_5 {a0 a1 a2 a3 a4 a5 a6 a7 a8 : Option Value} (h : z_c2 (some a4) = false) (k : zW G M d rc rs pc [a0, a1, a2, a3, a4, some v, a6, a7, a8] st ah Q) : zW G M d rc rs pc (z_st1 [a0, a1, a2, a3, a4, a5, a6, a7, a8] 5 v) st ah Q := by
  have e : z_st1 [a0, a1, a2, a3, a4, a5, a6, a7, a8] 5 v = [a0, a1, a2, a3, a4, some v, a6, a7, a8] := by
    show (match z_c2 (some a4) with | true => _ | false => _ : List (Option Value)).set 5 (some v) = _
    rw [h]
    rfl
  rw [e]
  exact k
theorem zt9_5 {a0 a1 a2 a3 a4 a5 a6 a7 a8 : Option Value} (h : z_c2 (some a4) = false) (k : zW G M d rc rs pc [a0, a1, a2, a3, a4, some v, none, a7, a8] st ah Q) : zW G M d rc rs pc (z_st2 [a0, a1, a2, a3, a4, a5, a6, a7, a8] 5 v) st ah Q := by
  have e : z_st2 [a0, a1, a2, a3, a4, a5, a6, a7, a8] 5 v = [a0, a1, a2, a3, a4, some v, none, a7, a8] := by
    show ((match z_c2 (some a4) with | true => _ | false => _ : List (Option Value)).set 5 (some v)).set 6 none = _
    rw [h]
    rfl
  rw [e]
  exact k
theorem zs9_6 {a0 a1 a2 a3 a4 a5 a6 a7 a8 : Option Value} (h : z_c2 (some a5) = false) (k : zW G M d rc rs pc [a0, a1, a2, a3, a4, a5, some v, a7, a8] st ah Q) : zW G M d rc rs pc (z_st1 [a0, a1, a2, a3, a4, a5, a6, a7, a8] 6 v) st ah Q := by
  have e : z_st1 [a0, a1, a2, a3, a4, a5, a6, a7, a8] 6 v = [a0, a1, a2, a3, a4, a5, some v, a7, a8] := by
    show (match z_c2 (some a5) with | true => _ | false => _ : List (Option Value)).set 6 (some v) = _
    rw [h]
    rfl
  rw [e]
  exact k
theorem zt9_6 {a0 a1 a2 a3 a4 a5 a6 a7 a8 : Option Value} (h : z_c2 (some a5) = false) (k : zW G M d rc rs pc [a0, a1, a2, a3, a4, a5, some v, none, a8] st ah Q) : zW G M d rc rs pc (z_st2 [a0, a1, a2, a3, a4, a5, a6, a7, a8] 6 v) st ah Q := by
  have e : z_st2 [a0, a1, a2, a3, a4, a5, a6, a7, a8] 6 v = [a0, a1, a2, a3, a4, a5, some v, none, a8] := by
    show ((match z_c2 (some a5) with | true => _ | false => _ : List (Option Value)).set 6 (some v)).set 7 none = _
    rw [h]
    rfl
  rw [e]
  exact k
theorem zs9_7 {a0 a1 a2 a3 a4 a5 a6 a7 a8 : Option Value} (h : z_c2 (some a6) = false) (k : zW G M d rc rs pc [a0, a1, a2, a3, a4, a5, a6, some v, a8] st ah Q) : zW G M d rc rs pc (z_st1 [a0, a1, a2, a3, a4, a5, a6, a7, a8] 7 v) st ah Q := by
  have e : z_st1 [a0, a1, a2, a3, a4, a5, a6, a7, a8] 7 v = [a0, a1, a2, a3, a4, a5, a6, some v, a8] := by
    show (match z_c2 (some a6) with | true => _ | false => _ : List (Option Value)).set 7 (some v) = _
    rw [h]
    rfl
  rw [e]
  exact k
theorem zt9_7 {a0 a1 a2 a3 a4 a5 a6 a7 a8 : Option Value} (h : z_c2 (some a6) = false) (k : zW G M d rc rs pc [a0, a1, a2, a3, a4, a5, a6, some v, none] st ah Q) : zW G M d rc rs pc (z_st2 [a0, a1, a2, a3, a4, a5, a6, a7, a8] 7 v) st ah Q := by
  have e : z_st2 [a0, a1, a2, a3, a4, a5, a6, a7, a8] 7 v = [a0, a1, a2, a3, a4, a5, a6, some v, none] := by
    show ((match z_c2 (some a6) with | true => _ | false => _ : List (Option Value)).set 7 (some v)).set 8 none = _
    rw [h]
    rfl
  rw [e]
  exact k
theorem zs9_8 {a0 a1 a2 a3 a4 a5 a6 a7 a8 : Option Value} (h : z_c2 (some a7) = false) (k : zW G M d rc rs pc [a0, a1, a2, a3, a4, a5, a6, a7, some v] st ah Q) : zW G M d rc rs pc (z_st1 [a0, a1, a2, a3, a4, a5, a6, a7, a8] 8 v) st ah Q := by
  have e : z_st1 [a0, a1, a2, a3, a4, a5, a6, a7, a8] 8 v = [a0, a1, a2, a3, a4, a5, a6, a7, some v] := by
    show (match z_c2 (some a7) with | true => _ | false => _ : List (Option Value)).set 8 (some v) = _
    rw [h]
    rfl
  rw [e]
  exact k
theorem zs10_0 {a0 a1 a2 a3 a4 a5 a6 a7 a8 a9 : Option Value} (k : zW G M d rc rs pc [some v, a1, a2, a3, a4, a5, a6, a7, a8, a9] st ah Q) : zW G M d rc rs pc (z_st1 [a0, a1, a2, a3, a4, a5, a6, a7, a8, a9] 0 v) st ah Q := k
theorem zt10_0 {a0 a1 a2 a3 a4 a5 a6 a7 a8 a9 : Option Value} (k : zW G M d rc rs pc [some v, none, a2, a3, a4, a5, a6, a7, a8, a9] st ah Q) : zW G M d rc rs pc (z_st2 [a0, a1, a2, a3, a4, a5, a6, a7, a8, a9] 0 v) st ah Q := k
theorem zs10_1 {a0 a1 a2 a3 a4 a5 a6 a7 a8 a9 : Option Value} (h : z_c2 (some a0) = false) (k : zW G M d rc rs pc [a0, some v, a2, a3, a4, a5, a6, a7, a8, a9] st ah Q) : zW G M d rc rs pc (z_st1 [a0, a1, a2, a3, a4, a5, a6, a7, a8, a9] 1 v) st ah Q := by
  have e : z_st1 [a0, a1, a2, a3, a4, a5, a6, a7, a8, a9] 1 v = [a0, some v, a2, a3, a4, a5, a6, a7, a8, a9] := by
    show (match z_c2 (some a0) with | true => _ | false => _ : List (Option Value)).set 1 (some v) = _
    rw [h]
    rfl
  rw [e]
  exact k
theorem zt10_1 {a0 a1 a2 a3 a4 a5 a6 a7 a8 a9 : Option Value} (h : z_c2 (some a0) = false) (k : zW G M d rc rs pc [a0, some v, none, a3, a4, a5, a6, a7, a8, a9] st ah Q) : zW G M d rc rs pc (z_st2 [a0, a1, a2, a3, a4, a5, a6, a7, a8, a9] 1 v) st ah Q := by
  have e : z_st2 [a0, a1, a2, a3, a4, a5, a6, a7, a8, a9] 1 v = [a0, some v, none, a3, a4, a5, a6, a7, a8, a9] := by
    show ((match z_c2 (some a0) with | true => _ | false => _ : List (Option Value)).set 1 (some v)).set 2 none = _
    rw [h]
    rfl
  rw [e]
  exact k
theorem zs10_2 {a0 a1 a2 a3 a4 a5 a6 a7 a8 a9 : Option Value} (h : z_c2 (some a1) = false) (k : zW G M d rc rs pc [a0, a1, some v, a3, a4, a5, a6, a7, a8, a9] st ah Q) : zW G M d rc rs pc (z_st1 [a0, a1, a2, a3, a4, a5, a6, a7, a8, a9] 2 v) st ah Q := by
  have e : z_st1 [a0, a1, a2, a3, a4, a5, a6, a7, a8, a9] 2 v = [a0, a1, some v, a3, a4, a5, a6, a7, a8, a9] := by
    show (match z_c2 (some a1) with | true => _ | false => _ : List (Option Value)).set 2 (some v) = _
    rw [h]
    rfl
  rw [e]
  exact k
theorem zt10_2 {a0 a1 a2 a3 a4 a5 a6 a7 a8 a9 : Option Value} (h : z_c2 (some a1) = false) (k : zW G M d rc rs pc [a0, a1, some v, none, a4, a5, a6, a7, a8, a9] st ah Q) : zW G M d rc rs pc (z_st2 [a0, a1, a2, a3, a4, a5, a6, a7, a8, a9] 2 v) st ah Q := by
  have e : z_st2 [a0, a1, a2, a3, a4, a5, a6, a7, a8, a9] 2 v = [a0, a1, some v, none, a4, a5, a6, a7, a8, a9] := by
    show ((match z_c2 (some a1) with | true => _ | false => _ : List (Option Value)).set 2 (some v)).set 3 none = _
    rw [h]
    rfl
  rw [e]
  exact k
theorem zs10_3 {a0 a1 a2 a3 a4 a5 a6 a7 a8 a9 : Option Value} (h : z_c2 (some a2) = false) (k : zW G M d rc rs pc [a0, a1, a2, some v, a4, a5, a6, a7, a8, a9] st ah Q) : zW G M d rc rs pc (z_st1 [a0, a1, a2, a3, a4, a5, a6, a7, a8, a9] 3 v) st ah Q := by
  have e : z_st1 [a0, a1, a2, a3, a4, a5, a6, a7, a8, a9] 3 v = [a0, a1, a2, some v, a4, a5, a6, a7, a8, a9] := by
    show (match z_c2 (some a2) with | true => _ | false => _ : List (Option Value)).set 3 (some v) = _
    rw [h]
    rfl
  rw [e]
  exact k
theorem zt10_3 {a0 a1 a2 a3 a4 a5 a6 a7 a8 a9 : Option Value} (h : z_c2 (some a2) = false) (k : zW G M d rc rs pc [a0, a1, a2, some v, none, a5, a6, a7, a8, a9] st ah Q) : zW G M d rc rs pc (z_st2 [a0, a1, a2, a3, a4, a5, a6, a7, a8, a9] 3 v) st ah Q := by
  have e : z_st2 [a0, a1, a2, a3, a4, a5, a6, a7, a8, a9] 3 v = [a0, a1, a2, some v, none, a5, a6, a7, a8, a9] := by
    show ((match z_c2 (some a2) with | true => _ | false => _ : List (Option Value)).set 3 (some v)).set 4 none = _
    rw [h]
    rfl
  rw [e]
  exact k
theorem zs10_4 {a0 a1 a2 a3 a4 a5 a6 a7 a8 a9 : Option Value} (h : z_c2 (some a3) = false) (k : zW G M d rc rs pc [a0, a1, a2, a3, some v, a5, a6, a7, a8, a9] st ah Q) : zW G M d rc rs pc (z_st1 [a0, a1, a2, a3, a4, a5, a6, a7, a8, a9] 4 v) st ah Q := by
  have e : z_st1 [a0, a1, a2, a3, a4, a5, a6, a7, a8, a9] 4 v = [a0, a1, a2, a3, some v, a5, a6, a7, a8, a9] := by
    show (match z_c2 (some a3) with | true => _ | false => _ : List (Option Value)).set 4 (some v) = _
    rw [h]
    rfl
  rw [e]
  exact k
theorem zt10_4 {a0 a1 a2 a3 a4 a5 a6 a7 a8 a9 : Option Value} (h : z_c2 (some a3) = false) (k : zW G M d rc rs pc [a0, a1, a2, a3, some v, none, a6, a7, a8, a9] st ah Q) : zW G M d rc rs pc (z_st2 [a0, a1, a2, a3, a4, a5, a6, a7, a8, a9] 4 v) st ah Q := by
  have e : z_st2 [a0, a1, a2, a3, a4, a5, a6, a7, a8, a9] 4 v = [a0, a1, a2, a3, some v, none, a6, a7, a8, a9] := by
    show ((match z_c2 (some a3) with | true => _ | false => _ : List (Option Value)).set 4 (some v)).set 5 none = _
    rw [h]
    rfl
  rw [e]
  exact k
theorem zs10_5 {a0 a1 a2 a3 a4 a5 a6 a7 a8 a9 : Option Value} (h : z_c2 (some a4) = false) (k : zW G M d rc rs pc [a0, a1, a2, a3, a4, some v, a6, a7, a8, a9] st ah Q) : zW G M d rc rs pc (z_st1 [a0, a1, a2, a3, a4, a5, a6, a7, a8, a9] 5 v) st ah Q := by
  have e : z_st1 [a0, a1, a2, a3, a4, a5, a6, a7, a8, a9] 5 v = [a0, a1, a2, a3, a4, some v, a6, a7, a8, a9] := by
    show (match z_c2 (some a4) with | true => _ | false => _ : List (Option Value)).set 5 (some v) = _
    rw [h]
    rfl
  rw [e]
  exact k
theorem zt10_5 {a0 a1 a2 a3 a4 a5 a6 a7 a8 a9 : Option Value} (h : z_c2 (some a4) = false) (k : zW G M d rc rs pc [a0, a1, a2, a3, a4, some v, none, a7, a8, a9] st ah Q) : zW G M d rc rs pc (z_st2 [a0, a1, a2, a3, a4, a5, a6, a7, a8, a9] 5 v) st ah Q := by
  have e : z_st2 [a0, a1, a2, a3, a4, a5, a6, a7, a8, a9] 5 v = [a0, a1, a2, a3, a4, some v, none, a7, a8, a9] := by
    show ((match z_c2 (some a4) with | true => _ | false => _ : List (Option Value)).set 5 (some v)).set 6 none = _
    rw [h]
    rfl
  rw [e]
  exact k
theorem zs10_6 {a0 a1 a2 a3 a4 a5 a6 a7 a8 a9 : Option Value} (h : z_c2 (some a5) = false) (k : zW G M d rc rs pc [a0, a1, a2, a3, a4, a5, some v, a7, a8, a9] st ah Q) : zW G M d rc rs pc (z_st1 [a0, a1, a2, a3, a4, a5, a6, a7, a8, a9] 6 v) st ah Q := by
  have e : z_st1 [a0, a1, a2, a3, a4, a5, a6, a7, a8, a9] 6 v = [a0, a1, a2, a3, a4, a5, some v, a7, a8, a9] := by
    show (match z_c2 (some a5) with | true => _ | false => _ : List (Option Value)).set 6 (some v) = _
    rw [h]
    rfl
  rw [e]
  exact k
theorem zt10_6 {a0 a1 a2 a3 a4 a5 a6 a7 a8 a9 : Option Value} (h : z_c2 (some a5) = false) (k : zW G M d rc rs pc [a0, a1, a2, a3, a4, a5, some v, none, a8, a9] st ah Q) : zW G M d rc rs pc (z_st2 [a0, a1, a2, a3, a4, a5, a6, a7, a8, a9] 6 v) st ah Q := by
  have e : z_st2 [a0, a1, a2, a3, a4, a5, a6, a7, a8, a9] 6 v = [a0, a1, a2, a3, a4, a5, some v, none, a8, a9] := by
    show ((match z_c2 (some a5) with | true => _ | false => _ : List (Option Value)).set 6 (some v)).set 7 none = _
    rw [h]
    rfl
  rw [e]
  exact k
theorem zs10_7 {a0 a1 a2 a3 a4 a5 a6 a7 a8 a9 : Option Value} (h : z_c2 (some a6) = false) (k : zW G M d rc rs pc [a0, a1, a2, a3, a4, a5, a6, some v, a8, a9] st ah Q) : zW G M d rc rs pc (z_st1 [a0, a1, a2, a3, a4, a5, a6, a7, a8, a9] 7 v) st ah Q := by
  have e : z_st1 [a0, a1, a2, a3, a4, a5, a6, a7, a8, a9] 7 v = [a0, a1, a2, a3, a4, a5, a6, some v, a8, a9] := by
    show (match z_c2 (some a6) with | true => _ | false => _ : List (Option Value)).set 7 (some v) = _
    rw [h]
    rfl
  rw [e]
  exact k
theorem zt10_7 {a0 a1 a2 a3 a4 a5 a6 a7 a8 a9 : Option Value} (h : z_c2 (some a6) = false) (k : zW G M d rc rs pc [a0, a1, a2, a3, a4, a5, a6, some v, none, a9] st ah Q) : zW G M d rc rs pc (z_st2 [a0, a1, a2, a3, a4, a5, a6, a7, a8, a9] 7 v) st ah Q := by
  have e : z_st2 [a0, a1, a2, a3, a4, a5, a6, a7, a8, a9] 7 v = [a0, a1, a2, a3, a4, a5, a6, some v, none, a9] := by
    show ((match z_c2 (some a6) with | true => _ | false => _ : List (Option Value)).set 7 (some v)).set 8 none = _
    rw [h]
    rfl
  rw [e]
  exact k
theorem zs10_8 {a0 a1 a2 a3 a4 a5 a6 a7 a8 a9 : Option Value} (h : z_c2 (some a7) = false) (k : zW G M d rc rs pc [a0, a1, a2, a3, a4, a5, a6, a7, some v, a9] st ah Q) : zW G M d rc rs pc (z_st1 [a0, a1, a2, a3, a4, a5, a6, a7, a8, a9] 8 v) st ah Q := by
  have e : z_st1 [a0, a1, a2, a3, a4, a5, a6, a7, a8, a9] 8 v = [a0, a1, a2, a3, a4, a5, a6, a7, some v, a9] := by
    show (match z_c2 (some a7) with | true => _ | false => _ : List (Option Value)).set 8 (some v) = _
    rw [h]
    rfl
  rw [e]
  exact k
theorem zt10_8 {a0 a1 a2 a3 a4 a5 a6 a7 a8 a9 : Option Value} (h : z_c2 (some a7) = false) (k : zW G M d rc rs pc [a0, a1, a2, a3, a4, a5, a6, a7, some v, none] st ah Q) : zW G M d rc rs pc (z_st2 [a0, a1, a2, a3, a4, a5, a6, a7, a8, a9] 8 v) st ah Q := by
  have e : z_st2 [a0, a1, a2, a3, a4, a5, a6, a7, a8, a9] 8 v = [a0, a1, a2, a3, a4, a5, a6, a7, some v, none] := by
    show ((match z_c2 (some a7) with | true => _ | false => _ : List (Option Value)).set 8 (some v)).set 9 none = _
    rw [h]
    rfl
  rw [e]
  exact k
theorem zs10_9 {a0 a1 a2 a3 a4 a5 a6 a7 a8 a9 : Option Value} (h : z_c2 (some a8) = false) (k : zW G M d rc rs pc [a0, a1, a2, a3, a4, a5, a6, a7, a8, some v] st ah Q) : zW G M d rc rs pc (z_st1 [a0, a1, a2, a3, a4, a5, a6, a7, a8, a9] 9 v) st ah Q := by
  have e : z_st1 [a0, a1, a2, a3, a4, a5, a6, a7, a8, a9] 9 v = [a0, a1, a2, a3, a4, a5, a6, a7, a8, some v] := by
    show (match z_c2 (some a8) with | true => _ | false => _ : List (Option Value)).set 9 (some v) = _
    rw [h]
    rfl
  rw [e]
  exact k
theorem zs11_0 {a0 a1 a2 a3 a4 a5 a6 a7 a8 a9 a10 : Option Value} (k : zW G M d rc rs pc [some v, a1, a2, a3, a4, a5, a6, a7, a8, a9, a10] st ah Q) : zW G M d rc rs pc (z_st1 [a0, a1, a2, a3, a4, a5, a6, a7, a8, a9, a10] 0 v) st ah Q := k
theorem zt11_0 {a0 a1 a2 a3 a4 a5 a6 a7 a8 a9 a10 : Option Value} (k : zW G M d rc rs pc [some v, none, a2, a3, a4, a5, a6, a7, a8, a9, a10] st ah Q) : zW G M d rc rs pc (z_st2 [a0, a1, a2, a3, a4, a5, a6, a7, a8, a9, a10] 0 v) st ah Q := k
theorem zs11_1 {a0 a1 a2 a3 a4 a5 a6 a7 a8 a9 a10 : Option Value} (h : z_c2 (some a0) = false) (k : zW G M d rc rs pc [a0, some v, a2, a3, a4, a5, a6, a7, a8, a9, a10] st ah Q) : zW G M d rc rs pc (z_st1 [a0, a1, a2, a3, a4, a5, a6, a7, a8, a9, a10] 1 v) st ah Q := by
  have e : z_st1 [a0, a1, a2, a3, a4, a5, a6, a7, a8, a9, a10] 1 v = [a0, some v, a2, a3, a4, a5, a6, a7, a8, a9, a10] := by
    show (match z_c2 (some a0) with | true => _ | false => _ : List (Option Value)).set 1 (some v) = _
    rw [h]
    rfl
  rw [e]
  exact k
theorem zt11_1 {a0 a1 a2 a3 a4 a5 a6 a7 a8 a9 a10 : Option Value} (h : z_c2 (some a0) = false) (k : zW G M d rc rs pc [a0, some v, none, a3, a4, a5, a6, a7, a8, a9, a10] st ah Q) : zW G M d rc rs pc (z_st2 [a0, a1, a2, a3, a4, a5, a6, a7, a8, a9, a10] 1 v) st ah Q := by
  have e : z_st2 [a0, a1, a2, a3, a4, a5, a6, a7, a8, a9, a10] 1 v = [a0, some v, none, a3, a4, a5, a6, a7, a8, a9, a10] := by
    show ((match z_c2 (some a0) with | true => _ | false => _ : List (Option Value)).set 1 (some v)).set 2 none = _
    rw [h]
    rfl
  rw [e]
  exact k
theorem zs11_2 {a0 a1 a2 a3 a4 a5 a6 a7 a8 a9 a10 : Option Value} (h : z_c2 (some a1) = false) (k : zW G M d rc rs pc [a0, a1, some v, a3, a4, a5, a6, a7, a8, a9, a10] st ah Q) : zW G M d rc rs pc (z_st1 [a0, a1, a2, a3, a4, a5, a6, a7, a8, a9, a10] 2 v) st ah Q := by
  have e : z_st1 [a0, a1, a2, a3, a4, a5, a6, a7, a8, a9, a10] 2 v = [a0, a1, some v, a3, a4, a5, a6, a7, a8, a9, a10] := by
    show (match z_c2 (some a1) with | true => _ | false => _ : List (Option Value)).set 2 (some v) = _
    rw [h]
    rfl
  rw [e]
  exact k
theorem zt11_2 {a0 a1 a2 a3 a4 a5 a6 a7 a8 a9 a10 : Option Value} (h : z_c2 (some a1) = false) (k : zW G M d rc rs pc [a0, a1, some v, none, a4, a5, a6, a7, a8, a9, a10] st ah Q) : zW G M d rc rs pc (z_st2 [a0, a1, a2, a3, a4, a5, a6, a7, a8, a9, a10] 2 v) st ah Q := by
  have e : z_st2 [a0, a1, a2, a3, a4, a5, a6, a7, a8, a9, a10] 2 v = [a0, a1, some v, none, a4, a5, a6, a7, a8, a9, a10] := by
    show ((match z_c2 (some a1) with | true => _ | false => _ : List (Option Value)).set 2 (some v)).set 3 none = _
    rw [h]
    rfl
  rw [e]
  exact k
theorem zs11_3 {a0 a1 a2 a3 a4 a5 a6 a7 a8 a9 a10 : Option Value} (h : z_c2 (some a2) = false) (k : zW G M d rc rs pc [a0, a1, a2, some v, a4, a5, a6, a7, a8, a9, a10] st ah Q) : zW G M d rc rs pc (z_st1 [a0, a1, a2, a3, a4, a5, a6, a7, a8, a9, a10] 3 v) st ah Q := by
  have e : z_st1 [a0, a1, a2, a3, a4, a5, a6, a7, a8, a9, a10] 3 v = [a0, a1, a2, some v, a4, a5, a6, a7, a8, a9, a10] := by
    show (match z_c2 (some a2) with | true => _ | false => _ : List (Option Value)).set 3 (some v) = _
    rw [h]
    rfl
  rw [e]
  exact k
theorem zt11_3 {a0 a1 a2 a3 a4 a5 a6 a7 a8 a9 a10 : Option Value} (h : z_c2 (some a2) = false) (k : zW G M d rc rs pc [a0, a1, a2, some v, none, a5, a6, a7, a8, a9, a10] st ah Q) : zW G M d rc rs pc (z_st2 [a0, a1, a2, a3, a4, a5, a6, a7, a8, a9, a10] 3 v) st ah Q := by
  have e : z_st2 [a0, a1, a2, a3, a4, a5, a6, a7, a8, a9, a10] 3 v = [a0, a1, a2, some v, none, a5, a6, a7, a8, a9, a10] := by
    show ((match z_c2 (some a2) with | true => _ | false => _ : List (Option Value)).set 3 (some v)).set 4 none = _
    rw [h]
    rfl
  rw [e]
  exact k
theorem zs11_4 {a0 a1 a2 a3 a4 a5 a6 a7 a8 a9 a10 : Option Value} (h : z_c2 (some a3) = false) (k : zW G M d rc rs pc [a0, a1, a2, a3, some v, a5, a6, a7, a8, a9, a10] st ah Q) : zW G M d rc rs pc (z_st1 [a0, a1, a2, a3, a4, a5, a6, a7, a8, a9, a10] 4 v) st ah Q := by
  have e : z_st1 [a0, a1, a2, a3, a4, a5, a6, a7, a8, a9, a10] 4 v = [a0, a1, a2, a3, some v, a5, a6, a7, a8, a9, a10] := by
    show (match z_c2 (some a3) with | true => _ | false => _ : List (Option Value)).set 4 (some v) = _
    rw [h]
    rfl
  rw [e]
  exact k
theorem zt11_4 {a0 a1 a2 a3 a4 a5 a6 a7 a8 a9 a10 : Option Value} (h : z_c2 (some a3) = false) (k : zW G M d rc rs pc [a0, a1, a2, a3, some v, none, a6, a7, a8, a9, a10] st ah Q) : zW G M d rc rs pc (z_st2 [a0, a1, a2, a3, a4, a5, a6, a7, a8, a9, a10] 4 v) st ah Q := by
  have e : z_st2 [a0, a1, a2, a3, a4, a5, a6, a7, a8, a9, a10] 4 v = [a0, a1, a2, a3, some v, none, a6, a7, a8, a9, a10] := by
    show ((match z_c2 (some a3) with | true => _ | false => _ : List (Option Value)).set 4 (some v)).set 5 none = _
    rw [h]
    rfl
  rw [e]
  exact k
theorem zs11_5 {a0 a1 a2 a3 a4 a5 a6 a7 a8 a9 a10 : Option Value} (h : z_c2 (some a4) = false) (k : zW G M d rc rs pc [a0, a1, a2, a3, a4, some v, a6, a7, a8, a9, a10] st ah Q) : zW G M d rc rs pc (z_st1 [a0, a1, a2, a3, a4, a5, a6, a7, a8, a9, a10] 5 v) st ah Q := by
  have e : z_st1 [a0, a1, a2, a3, a4, a5, a6, a7, a8, a9, a10] 5 v = [a0, a1, a2, a3, a4, some v, a6, a7, a8, a9, a10] := by
    show (match z_c2 (some a4) with | true => _ | false => _ : List (Option Value)).set 5 (some v) = _
    rw [h]
    rfl
  rw [e]
  exact k
theorem zt11_5 {a0 a1 a2 a3 a4 a5 a6 a7 a8 a9 a10 : Option Value} (h : z_c2 (some a4) = false) (k : zW G M d rc rs pc [a0, a1, a2, a3, a4, some v, none, a7, a8, a9, a10] st ah Q) : zW G M d rc rs pc (z_st2 [a0, a1, a2, a3, a4, a5, a6, a7, a8, a9, a10] 5 v) st ah Q := by
  have e : z_st2 [a0, a1, a2, a3, a4, a5, a6, a7, a8, a9, a10] 5 v = [a0, a1, a2, a3, a4, some v, none, a7, a8, a9, a10] := by
    show ((match z_c2 (some a4) with | true => _ | false => _ : List (Option Value)).set 5 (some v)).set 6 none = _
    rw [h]
    rfl
  rw [e]
  exact k
theorem zs11_6 {a0 a1 a2 a3 a4 a5 a6 a7 a8 a9 a10 : Option Value} (h : z_c2 (some a5) = false) (k : zW G M d rc rs pc [a0, a1, a2, a3, a4, a5, some v, a7, a8, a9, a10] st ah Q) : zW G M d rc rs pc (z_st1 [a0, a1, a2, a3, a4, a5, a6, a7, a8, a9, a10] 6 v) st ah Q := by
  have e : z_st1 [a0, a1, a2, a3, a4, a5, a6, a7, a8, a9, a10] 6 v = [a0, a1, a2, a3, a4, a5, some v, a7, a8, a9, a10] := by
    show (match z_c2 (some a5) with | true => _ | false => _ : List (Option Value)).set 6 (some v) = _
    rw [h]
    rfl
  rw [e]
  exact k
theorem zt11_6 {a0 a1 a2 a3 a4 a5 a6 a7 a8 a9 a10 : Option Value} (h : z_c2 (some a5) = false) (k : zW G M d rc rs pc [a0, a1, a2, a3, a4, a5, some v, none, a8, a9, a10] st ah Q) : zW G M d rc rs pc (z_st2 [a0, a1, a2, a3, a4, a5, a6, a7, a8, a9, a10] 6 v) st ah Q := by
  have e : z_st2 [a0, a1, a2, a3, a4, a5, a6, a7, a8, a9, a10] 6 v = [a0, a1, a2, a3, a4, a5, some v, none, a8, a9, a10] := by
    show ((match z_c2 (some a5) with | true => _ | false => _ : List (Option Value)).set 6 (some v)).set 7 none = _
    rw [h]
    rfl
  rw [e]
  exact k
theorem zs11_7 {a0 a1 a2 a3 a4 a5 a6 a7 a8 a9 a10 : Option Value} (h : z_c2 (some a6) = false) (k : zW G M d rc rs pc [a0, a1, a2, a3, a4, a5, a6, some v, a8, a9, a10] st ah Q) : zW G M d rc rs pc (z_st1 [a0, a1, a2, a3, a4, a5, a6, a7, a8, a9, a10] 7 v) st ah Q := by
  have e : z_st1 [a0, a1, a2, a3, a4, a5, a6, a7, a8, a9, a10] 7 v = [a0, a1, a2, a3, a4, a5, a6, some v, a8, a9, a10] := by
    show (match z_c2 (some a6) with | true => _ | false => _ : List (Option Value)).set 7 (some v) = _
    rw [h]
    rfl
  rw [e]
  exact k
theorem zt11_7 {a0 a1 a2 a3 a4 a5 a6 a7 a8 a9 a10 : Option Value} (h : z_c2 (some a6) = false) (k : zW G M d rc rs pc [a0, a1, a2, a3, a4, a5, a6, some v, none, a9, a10] st ah Q) : zW G M d rc rs pc (z_st2 [a0, a1, a2, a3, a4, a5, a6, a7, a8, a9, a10] 7 v) st ah Q := by
  have e : z_st2 [a0, a1, a2, a3, a4, a5, a6, a7, a8, a9, a10] 7 v = [a0, a1, a2, a3, a4, a5, a6, some v, none, a9, a10] := by
    show ((match z_c2 (some a6) with | true => _ | false => _ : List (Option Value)).set 7 (some v)).set 8 none = _
    rw [h]
    rfl
  rw [e]
  exact k
theorem zs11_8 {a0 a1 a2 a3 a4 a5 a6 a7 a8 a9 a10 : Option Value} (h : z_c2 (some a7) = false) (k : zW G M d rc rs pc [a0, a1, a2, a3, a4, a5, a6, a7, some v, a9, a10] st ah Q) : zW G M d rc rs pc (z_st1 [a0, a1, a2, a3, a4, a5, a6, a7, a8, a9, a10] 8 v) st ah Q := by
  have e : z_st1 [a0, a1, a2, a3, a4, a5, a6, a7, a8, a9, a10] 8 v = [a0, a1, a2, a3, a4, a5, a6, a7, some v, a9, a10] := by
    show (match z_c2 (some a7) with | true => _ | false => _ : List (Option Value)).set 8 (some v) = _
    rw [h]
    rfl
  rw [e]
  exact k
theorem zt11_8 {a0 a1 a2 a3 a4 a5 a6 a7 a8 a9 a10 : Option Value} (h : z_c2 (some a7) = false) (k : zW G M d rc rs pc [a0, a1, a2, a3, a4, a5, a6, a7, some v, none, a10] st ah Q) : zW G M d rc rs pc (z_st2 [a0, a1, a2, a3, a4, a5, a6, a7, a8, a9, a10] 8 v) st ah Q := by
  have e : z_st2 [a0, a1, a2, a3, a4, a5, a6, a7, a8, a9, a10] 8 v = [a0, a1, a2, a3, a4, a5, a6, a7, some v, none, a10] := by
    show ((match z_c2 (some a7) with | true => _ | false => _ : List (Option Value)).set 8 (some v)).set 9 none = _
    rw [h]
    rfl
  rw [e]
  exact k
theorem zs11_9 {a0 a1 a2 a3 a4 a5 a6 a7 a8 a9 a10 : Option Value} (h : z_c2 (some a8) = false) (k : zW G M d rc rs pc [a0, a1, a2, a3, a4, a5, a6, a7, a8, some v, a10] st ah Q) : zW G M d rc rs pc (z_st1 [a0, a1, a2, a3, a4, a5, a6, a7, a8, a9, a10] 9 v) st ah Q := by
  have e : z_st1 [a0, a1, a2, a3, a4, a5, a6, a7, a8, a9, a10] 9 v = [a0, a1, a2, a3, a4, a5, a6, a7, a8, some v, a10] := by
    show (match z_c2 (some a8) with | true => _ | false => _ : List (Option Value)).set 9 (some v) = _
    rw [h]
    rfl
  rw [e]
  exact k
theorem zt11_9 {a0 a1 a2 a3 a4 a5 a6 a7 a8 a9 a10 : Option Value} (h : z_c2 (some a8) = false) (k : zW G M d rc rs pc [a0, a1, a2, a3, a4, a5, a6, a7, a8, some v, none] st ah Q) : zW G M d rc rs pc (z_st2 [a0, a1, a2, a3, a4, a5, a6, a7, a8, a9, a10] 9 v) st ah Q := by
  have e : z_st2 [a0, a1, a2, a3, a4, a5, a6, a7, a8, a9, a10] 9 v = [a0, a1, a2, a3, a4, a5, a6, a7, a8, some v, none] := by
    show ((match z_c2 (some a8) with | true => _ | false => _ : List (Option Value)).set 9 (some v)).set 10 none = _
    rw [h]
    rfl
  rw [e]
  exact k
theorem zs11_10 {a0 a1 a2 a3 a4 a5 a6 a7 a8 a9 a10 : Option Value} (h : z_c2 (some a9) = false) (k : zW G M d rc rs pc [a0, a1, a2, a3, a4, a5, a6, a7, a8, a9, some v] st ah Q) : zW G M d rc rs pc (z_st1 [a0, a1, a2, a3, a4, a5, a6, a7, a8, a9, a10] 10 v) st ah Q := by
  have e : z_st1 [a0, a1, a2, a3, a4, a5, a6, a7, a8, a9, a10] 10 v = [a0, a1, a2, a3, a4, a5, a6, a7, a8, a9, some v] := by
    show (match z_c2 (some a9) with | true => _ | false => _ : List (Option Value)).set 10 (some v) = _
    rw [h]
    rfl
  rw [e]
  exact k
theorem zs12_0 {a0 a1 a2 a3 a4 a5 a6 a7 a8 a9 a10 a11 : Option Value} (k : zW G M d rc rs pc [some v, a1, a2, a3, a4, a5, a6, a7, a8, a9, a10, a11] st ah Q) : zW G M d rc rs pc (z_st1 [a0, a1, a2, a3, a4, a5, a6, a7, a8, a9, a10, a11] 0 v) st ah Q := k
theorem zt12_0 {a0 a1 a2 a3 a4 a5 a6 a7 a8 a9 a10 a11 : Option Value} (k : zW G M d rc rs pc [some v, none, a2, a3, a4, a5, a6, a7, a8, a9, a10, a11] st ah Q) : zW G M d rc rs pc (z_st2 [a0, a1, a2, a3, a4, a5, a6, a7, a8, a9, a10, a11] 0 v) st ah Q := k
theorem zs12_1 {a0 a1 a2 a3 a4 a5 a6 a7 a8 a9 a10 a11 : Option Value} (h : z_c2 (some a0) = false) (k : zW G M d rc rs pc [a0, some v, a2, a3, a4, a5, a6, a7, a8, a9, a10, a11] st ah Q) : zW G M d rc rs pc (z_st1 [a0, a1, a2, a3, a4, a5, a6, a7, a8, a9, a10, a11] 1 v) st ah Q := by
  have e : z_st1 [a0, a1, a2, a3, a4, a5, a6, a7, a8, a9, a10, a11] 1 v = [a0, some v, a2, a3, a4, a5, a6, a7, a8, a9, a10, a11] := by
    show (match z_c2 (some a0) with | true => _ | false => _ : List (Option Value)).set 1 (some v) = _
    rw [h]
    rfl
  rw [e]
  exact k
theorem zt12_1 {a0 a1 a2 a3 a4 a5 a6 a7 a8 a9 a10 a11 : Option Value} (h : z_c2 (some a0) = false) (k : zW G M d rc rs pc [a0, some v, none, a3, a4, a5, a6, a7, a8, a9, a10, a11] st ah Q) : zW G M d rc rs pc (z_st2 [a0, a1, a2, a3, a4, a5, a6, a7, a8, a9, a10, a11] 1 v) st ah Q := by
  have e : z_st2 [a0, a1, a2, a3, a4, a5, a6, a7, a8, a9, a10, a11] 1 v = [a0, some v, none, a3, a4, a5, a6, a7, a8, a9, a10, a11] := by
    show ((match z_c2 (some a0) with | true => _ | false => _ : List (Option Value)).set 1 (some v)).set 2 none = _
    rw [h]
    rfl
  rw [e]
  exact k
theorem zs12_2 {a0 a1 a2 a3 a4 a5 a6 a7 a8 a9 a10 a11 : Option Value} (h : z_c2 (some a1) = false) (k : zW G M d rc rs pc [a0, a1, some v, a3, a4, a5, a6, a7, a8, a9, a10, a11] st ah Q) : zW G M d rc rs pc (z_st1 [a0, a1, a2, a3, a4, a5, a6, a7, a8, a9, a10, a11] 2 v) st ah Q := by
  have e : z_st1 [a0, a1, a2, a3, a4, a5, a6, a7, a8, a9, a10, a11] 2 v = [a0, a1, some v, a3, a4, a5, a6, a7, a8, a9, a10, a11] := by
    show (match z_c2 (some a1) with | true => _ | false => _ : List (Option Value)).set 2 (some v) = _
    rw [h]
    rfl
  rw [e]
  exact k
theorem zt12_2 {a0 a1 a2 a3 a4 a5 a6 a7 a8 a9 a10 a11 : Option Value} (h : z_c2 (some a1) = false) (k : zW G M d rc rs pc [a0, a1, some v, none, a4, a5, a6, a7, a8, a9, a10, a11] st ah Q) : zW G M d rc rs pc (z_st2 [a0, a1, a2, a3, a4, a5, a6, a7, a8, a9, a10, a11] 2 v) st ah Q := by
  have e : z_st2 [a0, a1, a2, a3, a4, a5, a6, a7, a8, a9, a10, a11] 2 v = [a0, a1, some v, none, a4, a5, a6, a7, a8, a9, a10, a11] := by
    show ((match z_c2 (some a1) with | true => _ | false => _ : List (Option Value)).set 2 (some v)).set 3 none = _
    rw [h]
    rfl
  rw [e]
  exact k
theorem zs12_3 {a0 a1 a2 a3 a4 a5 a6 a7 a8 a9 a10 a11 : Option Value} (h : z_c2 (some a2) = false) (k : zW G M d rc rs pc [a0, a1, a2, some v, a4, a5, a6, a7, a8, a9, a10, a11] st ah Q) : zW G M d rc rs pc (z_st1 [a0, a1, a2, a3, a4, a5, a6, a7, a8, a9, a10, a11] 3 v) st ah Q := by
  have e : z_st1 [a0, a1, a2, a3, a4, a5, a6, a7, a8, a9, a10, a11] 3 v = [a0, a1, a2, some v, a4, a5, a6, a7, a8, a9, a10, a11] := by
    show (match z_c2 (some a2) with | true => _ | false => _ : List (Option Value)).set 3 (some v) = _
    rw [h]
    rfl
  rw [e]
  exact k
theorem zt12_3 {a0 a1 a2 a3 a4 a5 a6 a7 a8 a9 a10 a11 : Option Value} (h : z_c2 (some a2) = false) (k : zW G M d rc rs pc [a0, a1, a2, some v, none, a5, a6, a7, a8, a9, a10, a11] st ah Q) : zW G M d rc rs pc (z_st2 [a0, a1, a2, a3, a4, a5, a6, a7, a8, a9, a10, a11] 3 v) st ah Q := by
  have e : z_st2 [a0, a1, a2, a3, a4, a5, a6, a7, a8, a9, a10, a11] 3 v = [a0, a1, a2, some v, none, a5, a6, a7, a8, a9, a10, a11] := by
    show ((match z_c2 (some a2) with | true => _ | false => _ : List (Option Value)).set 3 (some v)).set 4 none = _
    rw [h]
    rfl
  rw [e]
  exact k
theorem zs12_4 {a0 a1 a2 a3 a4 a5 a6 a7 a8 a9 a10 a11 : Option Value} (h : z_c2 (some a3) = false) (k : zW G M d rc rs pc [a0, a1, a2, a3, some v, a5, a6, a7, a8, a9, a10, a11] st ah Q) : zW G M d rc rs pc (z_st1 [a0, a1, a2, a3, a4, a5, a6, a7, a8, a9, a10, a11] 4 v) st ah Q := by
  have e : z_st1 [a0, a1, a2, a3, a4, a5, a6, a7, a8, a9, a10, a11] 4 v = [a0, a1, a2, a3, some v, a5, a6, a7, a8, a9, a10, a11] := by
    show (match z_c2 (some a3) with | true => _ | false => _ : List (Option Value)).set 4 (some v) = _
    rw [h]
    rfl
  rw [e]
  exact k
theorem zt12_4 {a0 a1 a2 a3 a4 a5 a6 a7 a8 a9 a10 a11 : Option Value} (h : z_c2 (some a3) = false) (k : zW G M d rc rs pc [a0, a1, a2, a3, some v, none, a6, a7, a8, a9, a10, a11] st ah Q) : zW G M d rc rs pc (z_st2 [a0, a1, a2, a3, a4, a5, a6, a7, a8, a9, a10, a11] 4 v) st ah Q := by
  have e : z_st2 [a0, a1, a2, a3, a4, a5, a6, a7, a8, a9, a10, a11] 4 v = [a0, a1, a2, a3, some v, none, a6, a7, a8, a9, a10, a11] := by
    show ((match z_c2 (some a3) with | true => _ | false => _ : List (Option Value)).set 4 (some v)).set 5 none = _
    rw [h]
    rfl
  rw [e]
  exact k
theorem zs12_5 {a0 a1 a2 a3 a4 a5 a6 a7 a8 a9 a10 a11 : Option Value} (h : z_c2 (some a4) = false) (k : zW G M d rc rs pc [a0, a1, a2, a3, a4, some v, a6, a7, a8, a9, a10, a11] st ah Q) : zW G M d rc rs pc (z_st1 [a0, a1, a2, a3, a4, a5, a6, a7, a8, a9, a10, a11] 5 v) st ah Q := by
  have e : z_st1 [a0, a1, a2, a3, a4, a5, a6, a7, a8, a9, a10, a11] 5 v = [a0, a1, a2, a3, a4, some v, a6, a7, a8, a9, a10, a11] := by
    show (match z_c2 (some a4) with | true => _ | false => _ : List (Option Value)).set 5 (some v) = _
    rw [h]
    rfl
  rw [e]
  exact k
theorem zt12_5 {a0 a1 a2 a3 a4 a5 a6 a7 a8 a9 a10 a11 : Option Value} (h : z_c2 (some a4) = false) (k : zW G M d rc rs pc [a0, a1, a2, a3, a4, some v, none, a7, a8, a9, a10, a11] st ah Q) : zW G M d rc rs pc (z_st2 [a0, a1, a2, a3, a4, a5, a6, a7, a8, a9, a10, a11] 5 v) st ah Q := by
  have e : z_st2 [a0, a1, a2, a3, a4, a5, a6, a7, a8, a9, a10, a11] 5 v = [a0, a1, a2, a3, a4, some v, none, a7, a8, a9, a10, a11] := by
    show ((match z_c2 (some a4) with | true => _ | false => _ : List (Option Value)).set 5 (some v)).set 6 none = _
    rw [h]
    rfl
  rw [e]
  exact k
theorem zs12_6 {a0 a1 a2 a3 a4 a5 a6 a7 a8 a9 a10 a11 : Option Value} (h : z_c2 (some a5) = false) (k : zW G M d rc rs pc [a0, a1, a2, a3, a4, a5, some v, a7, a8, a9, a10, a11] st ah Q) : zW G M d rc rs pc (z_st1 [a0, a1, a2, a3, a4, a5, a6, a7, a8, a9, a10, a11] 6 v) st ah Q := by
  have e : z_st1 [a0, a1, a2, a3, a4, a5, a6, a7, a8, a9, a10, a11] 6 v = [a0, a1, a2, a3, a4, a5, some v, a7, a8, a9, a10, a11] := by
    show (match z_c2 (some a5) with | true => _ | false => _ : List (Option Value)).set 6 (some v) = _
    rw [h]
    rfl
  rw [e]
  exact k
theorem zt12_6 {a0 a1 a2 a3 a4 a5 a6 a7 a8 a9 a10 a11 : Option Value} (h : z_c2 (some a5) = false) (k : zW G M d rc rs pc [a0, a1, a2, a3, a4, a5, some v, none, a8, a9, a10, a11] st ah Q) : zW G M d rc rs pc (z_st2 [a0, a1, a2, a3, a4, a5, a6, a7, a8, a9, a10, a11] 6 v) st ah Q := by
  have e : z_st2 [a0, a1, a2, a3, a4, a5, a6, a7, a8, a9, a10, a11] 6 v = [a0, a1, a2, a3, a4, a5, some v, none, a8, a9, a10, a11] := by
    show ((match z_c2 (some a5) with | true => _ | false => _ : List (Option Value)).set 6 (some v)).set 7 none = _
    rw [h]
    rfl
  rw [e]
  exact k
theorem zs12_7 {a0 a1 a2 a3 a4 a5 a6 a7 a8 a9 a10 a11 : Option Value} (h : z_c2 (some a6) = false) (k : zW G M d rc rs pc [a0, a1, a2, a3, a4, a5, a6, some v, a8, a9, a10, a11] st ah Q) : zW G M d rc rs pc (z_st1 [a0, a1, a2, a3, a4, a5, a6, a7, a8, a9, a10, a11] 7 v) st ah Q := by
  have e : z_st1 [a0, a1, a2, a3, a4, a5, a6, a7, a8, a9, a10, a11] 7 v = [a0, a1, a2, a3, a4, a5, a6, some v, a8, a9, a10, a11] := by
    show (match z_c2 (some a6) with | true => _ | false => _ : List (Option Value)).set 7 (some v) = _
    rw [h]
    rfl
  rw [e]
  exact k
theorem zt12_7 {a0 a1 a2 a3 a4 a5 a6 a7 a8 a9 a10 a11 : Option Value} (h : z_c2 (some a6) = false) (k : zW G M d rc rs pc [a0, a1, a2, a3, a4, a5, a6, some v, none, a9, a10, a11] st ah Q) : zW G M d rc rs pc (z_st2 [a0, a1, a2, a3, a4, a5, a6, a7, a8, a9, a10, a11] 7 v) st ah Q := by
  have e : z_st2 [a0, a1, a2, a3, a4, a5, a6, a7, a8, a9, a10, a11] 7 v = [a0, a1, a2, a3, a4, a5, a6, some v, none, a9, a10, a11] := by
    show ((match z_c2 (some a6) with | true => _ | false => _ : List (Option Value)).set 7 (some v)).set 8 none = _
    rw [h]
    rfl
  rw [e]
  exact k
theorem zs12_8 {a0 a1 a2 a3 a4 a5 a6 a7 a8 a9 a10 a11 : Option Value} (h : z_c2 (some a7) = false) (k : zW G M d rc rs pc [a0, a1, a2, a3, a4, a5, a6, a7, some v, a9, a10, a11] st ah Q) : zW G M d rc rs pc (z_st1 [a0, a1, a2, a3, a4, a5, a6, a7, a8, a9, a10, a11] 8 v) st ah Q := by
  have e : z_st1 [a0, a1, a2, a3, a4, a5, a6, a7, a8, a9, a10, a11] 8 v = [a0, a1, a2, a3, a4, a5, a6, a7, some v, a9, a10, a11] := by
    show (match z_c2 (some a7) with | true => _ | false => _ : List (Option Value)).set 8 (some v) = _
    rw [h]
    rfl
  rw [e]
  exact k
theorem zt12_8 {a0 a1 a2 a3 a4 a5 a6 a7 a8 a9 a10 a11 : Option Value} (h : z_c2 (some a7) = false) (k : zW G M d rc rs pc [a0, a1, a2, a3, a4, a5, a6, a7, some v, none, a10, a11] st ah Q) : zW G M d rc rs pc (z_st2 [a0, a1, a2, a3, a4, a5, a6, a7, a8, a9, a10, a11] 8 v) st ah Q := by
  have e : z_st2 [a0, a1, a2, a3, a4, a5, a6, a7, a8, a9, a10, a11] 8 v = [a0, a1, a2, a3, a4, a5, a6, a7, some v, none, a10, a11] := by
    show ((match z_c2 (some a7) with | true => _ | false => _ : List (Option Value)).set 8 (some v)).set 9 none = _
    rw [h]
    rfl
  rw [e]
  exact k
theorem zs12_9 {a0 a1 a2 a3 a4 a5 a6 a7 a8 a9 a10 a11 : Option Value} (h : z_c2 (some a8) = false) (k : zW G M d rc rs pc [a0, a1, a2, a3, a4, a5, a6, a7, a8, some v, a10, a11] st ah Q) : zW G M d rc rs pc (z_st1 [a0, a1, a2, a3, a4, a5, a6, a7, a8, a9, a10, a11] 9 v) st ah Q := by
  have e : z_st1 [a0, a1, a2, a3, a4, a5, a6, a7, a8, a9, a10, a11] 9 v = [a0, a1, a2, a3, a4, a5, a6, a7, a8, some v, a10, a11] := by
    show (match z_c2 (some a8) with | true => _ | false => _ : List (Option Value)).set 9 (some v) = _
    rw [h]
    rfl
  rw [e]
  exact k
theorem zt12_9 {a0 a1 a2 a3 a4 a5 a6 a7 a8 a9 a10 a11 : Option Value} (h : z_c2 (some a8) = false) (k : zW G M d rc rs pc [a0, a1, a2, a3, a4, a5, a6, a7, a8, some v, none, a11] st ah Q) : zW G M d rc rs pc (z_st2 [a0, a1, a2, a3, a4, a5, a6, a7, a8, a9, a10, a11] 9 v) st ah Q := by
  have e : z_st2 [a0, a1, a2, a3, a4, a5, a6, a7, a8, a9, a10, a11] 9 v = [a0, a1, a2, a3, a4, a5, a6, a7, a8, some v, none, a11] := by
    show ((match z_c2 (some a8) with | true => _ | false => _ : List (Option Value)).set 9 (some v)).set 10 none = _
    rw [h]
    rfl
  rw [e]
  exact k
theorem zs12_10 {a0 a1 a2 a3 a4 a5 a6 a7 a8 a9 a10 a11 : Option Value} (h : z_c2 (some a9) = false) (k : zW G M d rc rs pc [a0, a1, a2, a3, a4, a5, a6, a7, a8, a9, some v, a11] st ah Q) : zW G M d rc rs pc (z_st1 [a0, a1, a2, a3, a4, a5, a6, a7, a8, a9, a10, a11] 10 v) st ah Q := by
  have e : z_st1 [a0, a1, a2, a3, a4, a5, a6, a7, a8, a9, a10, a11] 10 v = [a0, a1, a2, a3, a4, a5, a6, a7, a8, a9, some v, a11] := by
    show (match z_c2 (some a9) with | true => _ | false => _ : List (Option Value)).set 10 (some v) = _
    rw [h]
    rfl
  rw [e]
  exact k
theorem zt12_10 {a0 a1 a2 a3 a4 a5 a6 a7 a8 a9 a10 a11 : Option Value} (h : z_c2 (some a9) = false) (k : zW G M d rc rs pc [a0, a1, a2, a3, a4, a5, a6, a7, a8, a9, some v, none] st ah Q) : zW G M d rc rs pc (z_st2 [a0, a1, a2, a3, a4, a5, a6, a7, a8, a9, a10, a11] 10 v) st ah Q := by
  have e : z_st2 [a0, a1, a2, a3, a4, a5, a6, a7, a8, a9, a10, a11] 10 v = [a0, a1, a2, a3, a4, a5, a6, a7, a8, a9, some v, none] := by
    show ((match z_c2 (some a9) with | true => _ | false => _ : List (Option Value)).set 10 (some v)).set 11 none = _
    rw [h]
    rfl
  rw [e]
  exact k
theorem zs12_11 {a0 a1 a2 a3 a4 a5 a6 a7 a8 a9 a10 a11 : Option Value} (h : z_c2 (some a10) = false) (k : zW G M d rc rs pc [a0, a1, a2, a3, a4, a5, a6, a7, a8, a9, a10, some v] st ah Q) : zW G M d rc rs pc (z_st1 [a0, a1, a2, a3, a4, a5, a6, a7, a8, a9, a10, a11] 11 v) st ah Q := by
  have e : z_st1 [a0, a1, a2, a3, a4, a5, a6, a7, a8, a9, a10, a11] 11 v = [a0, a1, a2, a3, a4, a5, a6, a7, a8, a9, a10, some v] := by
    show (match z_c2 (some a10) with | true => _ | false => _ : List (Option Value)).set 11 (some v) = _
    rw [h]
    rfl
  rw [e]
  exact k
theorem zs13_0 {a0 a1 a2 a3 a4 a5 a6 a7 a8 a9 a10 a11 a12 : Option Value} (k : zW G M d rc rs pc [some v, a1, a2, a3, a4, a5, a6, a7, a8, a9, a10, a11, a12] st ah Q) : zW G M d rc rs pc (z_st1 [a0, a1, a2, a3, a4, a5, a6, a7, a8, a9, a10, a11, a12] 0 v) st ah Q := k
theorem zt13_0 {a0 a1 a2 a3 a4 a5 a6 a7 a8 a9 a10 a11 a12 : Option Value} (k : zW G M d rc rs pc [some v, none, a2, a3, a4, a5, a6, a7, a8, a9, a10, a11, a12] st ah Q) : zW G M d rc rs pc (z_st2 [a0, a1, a2, a3, a4, a5, a6, a7, a8, a9, a10, a11, a12] 0 v) st ah Q := k
theorem zs13_1 {a0 a1 a2 a3 a4 a5 a6 a7 a8 a9 a10 a11 a12 : Option Value} (h : z_c2 (some a0) = false) (k : zW G M d rc rs pc [a0, some v, a2, a3, a4, a5, a6, a7, a8, a9, a10, a11, a12] st ah Q) : zW G M d rc rs pc (z_st1 [a0, a1, a2, a3, a4, a5, a6, a7, a8, a9, a10, a11, a12] 1 v) st ah Q := by
  have e : z_st1 [a0, a1, a2, a3, a4, a5, a6, a7, a8, a9, a10, a11, a12] 1 v = [a0, some v, a2, a3, a4, a5, a6, a7, a8, a9, a10, a11, a12] := by
    show (match z_c2 (some a0) with | true => _ | false => _ : List (Option Value)).set 1 (some v) = _
    rw [h]
    rfl
  rw [e]
  exact k
theorem zt13_1 {a0 a1 a2 a3 a4 a5 a6 a7 a8 a9 a10 a11 a12 : Option Value} (h : z_c2 (some a0) = false) (k : zW G M d rc rs pc [a0, some v, none, a3, a4, a5, a6, a7, a8, a9, a10, a11, a12] st ah Q) : zW G M d rc rs pc (z_st2 [a0, a1, a2, a3, a4, a5, a6, a7, a8, a9, a10, a11, a12] 1 v) st ah Q := by
  have e : z_st2 [a0, a1, a2, a3, a4, a5, a6, a7, a8, a9, a10, a11, a12] 1 v = [a0, some v, none, a3, a4, a5, a6, a7, a8, a9, a10, a11, a12] := by
    show ((match z_c2 (some a0) with | true => _ | false => _ : List (Option Value)).set 1 (some v)).set 2 none = _
    rw [h]
    rfl
  rw [e]
  exact k
theorem zs13_2 {a0 a1 a2 a3 a4 a5 a6 a7 a8 a9 a10 a11 a12 : Option Value} (h : z_c2 (some a1) = false) (k : zW G M d rc rs pc [a0, a1, some v, a3, a4, a5, a6, a7, a8, a9, a10, a11, a12] st ah Q) : zW G M d rc rs pc (z_st1 [a0, a1, a2, a3, a4, a5, a6, a7, a8, a9, a10, a11, a12] 2 v) st ah Q := by
  have e : z_st1 [a0, a1, a2, a3, a4, a5, a6, a7, a8, a9, a10, a11, a12] 2 v = [a0, a1, some v, a3, a4, a5, a6, a7, a8, a9, a10, a11, a12] := by
    show (match z_c2 (some a1) with | true => _ | false => _ : List (Option Value)).set 2 (some v) = _
    rw [h]
    rfl
  rw [e]
  exact k
theorem zt13_2 {a0 a1 a2 a3 a4 a5 a6 a7 a8 a9 a10 a11 a12 : Option Value} (h : z_c2 (some a1) = false) (k : zW G M d rc rs pc [a0, a1, some v, none, a4, a5, a6, a7, a8, a9, a10, a11, a12] st ah Q) : zW G M d rc rs pc (z_st2 [a0, a1, a2, a3, a4, a5, a6, a7, a8, a9, a10, a11, a12] 2 v) st ah Q := by
  have e : z_st2 [a0, a1, a2, a3, a4, a5, a6, a7, a8, a9, a10, a11, a12] 2 v = [a0, a1, some v, none, a4, a5, a6, a7, a8, a9, a10, a11, a12] := by
    show ((match z_c2 (some a1) with | true => _ | false => _ : List (Option Value)).set 2 (some v)).set 3 none = _
    rw [h]
    rfl
  rw [e]
  exact k
theorem zs13_3 {a0 a1 a2 a3 a4 a5 a6 a7 a8 a9 a10 a11 a12 : Option Value} (h : z_c2 (some a2) = false) (k : zW G M d rc rs pc [a0, a1, a2, some v, a4, a5, a6, a7, a8, a9, a10, a11, a12] st ah Q) : zW G M d rc rs pc (z_st1 [a0, a1, a2, a3, a4, a5, a6, a7, a8, a9, a10, a11, a12] 3 v) st ah Q := by
  have e : z_st1 [a0, a1, a2, a3, a4, a5, a6, a7, a8, a9, a10, a11, a12] 3 v = [a0, a1, a2, some v, a4, a5, a6, a7, a8, a9, a10, a11, a12] := by
    show (match z_c2 (some a2) with | true => _ | false => _ : List (Option Value)).set 3 (some v) = _
    rw [h]
    rfl
  rw [e]
  exact k
theorem zt13_3 {a0 a1 a2 a3 a4 a5 a6 a7 a8 a9 a10 a11 a12 : Option Value} (h : z_c2 (some a2) = false) (k : zW G M d rc rs pc [a0, a1, a2, some v, none, a5, a6, a7, a8, a9, a10, a11, a12] st ah Q) : zW G M d rc rs pc (z_st2 [a0, a1, a2, a3, a4, a5, a6, a7, a8, a9, a10, a11, a12] 3 v) st ah Q := by
  have e : z_st2 [a0, a1, a2, a3, a4, a5, a6, a7, a8, a9, a10, a11, a12] 3 v = [a0, a1, a2, some v, none, a5, a6, a7, a8, a9, a10, a11, a12] := by
    show ((match z_c2 (some a2) with | true => _ | false => _ : List (Option Value)).set 3 (some v)).set 4 none = _
    rw [h]
    rfl
  rw [e]
  exact k
theorem zs13_4 {a0 a1 a2 a3 a4 a5 a6 a7 a8 a9 a10 a11 a12 : Option Value} (h : z_c2 (some a3) = false) (k : zW G M d rc rs pc [a0, a1, a2, a3, some v, a5, a6, a7, a8, a9, a10, a11, a12] st ah Q) : zW G M d rc rs pc (z_st1 [a0, a1, a2, a3, a4, a5, a6, a7, a8, a9, a10, a11, a12] 4 v) st ah Q := by
  have e : z_st1 [a0, a1, a2, a3, a4, a5, a6, a7, a8, a9, a10, a11, a12] 4 v = [a0, a1, a2, a3, some v, a5, a6, a7, a8, a9, a10, a11, a12] := by
    show (match z_c2 (some a3) with | true => _ | false => _ : List (Option Value)).set 4 (some v) = _
    rw [h]
    rfl
  rw [e]
  exact k
theorem zt13_4 {a0 a1 a2 a3 a4 a5 a6 a7 a8 a9 a10 a11 a12 : Option Value} (h : z_c2 (some a3) = false) (k : zW G M d rc rs pc [a0, a1, a2, a3, some v, none, a6, a7, a8, a9, a10, a11, a12] st ah Q) : zW G M d rc rs pc (z_st2 [a0, a1, a2, a3, a4, a5, a6, a7, a8, a9, a10, a11, a12] 4 v) st ah Q := by
  have e : z_st2 [a0, a1, a2, a3, a4, a5, a6, a7, a8, a9, a10, a11, a12] 4 v = [a0, a1, a2, a3, some v, none, a6, a7, a8, a9, a10, a11, a12] := by
    show ((match z_c2 (some a3) with | true => _ | false => _ : List (Option Value)).set 4 (some v)).set 5 none = _
    rw [h]
    rfl
  rw [e]
  exact k
theorem zs13_5 {a0 a1 a2 a3 a4 a5 a6 a7 a8 a9 a10 a11 a12 : Option Value} (h : z_c2 (some a4) = false) (k : zW G M d rc rs pc [a0, a1, a2, a3, a4, some v, a6, a7, a8, a9, a10, a11, a12] st ah Q) : zW G M d rc rs pc (z_st1 [a0, a1, a2, a3, a4, a5, a6, a7, a8, a9, a10, a11, a12] 5 v) st ah Q := by
  have e : z_st1 [a0, a1, a2, a3, a4, a5, a6, a7, a8, a9, a10, a11, a12] 5 v = [a0, a1, a2, a3, a4, some v, a6, a7, a8, a9, a10, a11, a12] := by
    show (match z_c2 (some a4) with | true => _ | false => _ : List (Option Value)).set 5 (some v) = _
    rw [h]
    rfl
  rw [e]
  exact k
theorem zt13_5 {a0 a1 a2 a3 a4 a5 a6 a7 a8 a9 a10 a11 a12 : Option Value} (h : z_c2 (some a4) = false) (k : zW G M d rc rs pc [a0, a1, a2, a3, a4, some v, none, a7, a8, a9, a10, a11, a12] st ah Q) : zW G M d rc rs pc (z_st2 [a0, a1, a2, a3, a4, a5, a6, a7, a8, a9, a10, a11, a12] 5 v) st ah Q := by
  have e : z_st2 [a0, a1, a2, a3, a4, a5, a6, a7, a8, a9, a10, a11, a12] 5 v = [a0, a1, a2, a3, a4, some v, none, a7, a8, a9, a10, a11, a12] := by
    show ((match z_c2 (some a4) with | true => _ | false => _ : List (Option Value)).set 5 (some v)).set 6 none = _
    rw [h]
    rfl
  rw [e]
  exact k
theorem zs13_6 {a0 a1 a2 a3 a4 a5 a6 a7 a8 a9 a10 a11 a12 : Option Value} (h : z_c2 (some a5) = false) (k : zW G M d rc rs pc [a0, a1, a2, a3, a4, a5, some v, a7, a8, a9, a10, a11, a12] st ah Q) : zW G M d rc rs pc (z_st1 [a0, a1, a2, a3, a4, a5, a6, a7, a8, a9, a10, a11, a12] 6 v) st ah Q := by
  have e : z_st1 [a0, a1, a2, a3, a4, a5, a6, a7, a8, a9, a10, a11, a12] 6 v = [a0, a1, a2, a3, a4, a5, some v, a7, a8, a9, a10, a11, a12] := by
    show (match z_c2 (some a5) with | true => _ | false => _ : List (Option Value)).set 6 (some v) = _
    rw [h]
    rfl
  rw [e]
  exact k
theorem zt13_6 {a0 a1 a2 a3 a4 a5 a6 a7 a8 a9 a10 a11 a12 : Option Value} (h : z_c2 (some a5) = false) (k : zW G M d rc rs pc [a0, a1, a2, a3, a4, a5, some v, none, a8, a9, a10, a11, a12] st ah Q) : zW G M d rc rs pc (z_st2 [a0, a1, a2, a3, a4, a5, a6, a7, a8, a9, a10, a11, a12] 6 v) st ah Q := by
  have e : z_st2 [a0, a1, a2, a3, a4, a5, a6, a7, a8, a9, a10, a11, a12] 6 v = [a0, a1, a2, a3, a4, a5, some v, none, a8, a9, a10, a11, a12] := by
    show ((match z_c2 (some a5) with | true => _ | false => _ : List (Option Value)).set 6 (some v)).set 7 none = _
    rw [h]
    rfl
  rw [e]
  exact k
theorem zs13_7 {a0 a1 a2 a3 a4 a5 a6 a7 a8 a9 a10 a11 a12 : Option Value} (h : z_c2 (some a6) = false) (k : zW G M d rc rs pc [a0, a1, a2, a3, a4, a5, a6, some v, a8, a9, a10, a11, a12] st ah Q) : zW G M d rc rs pc (z_st1 [a0, a1, a2, a3, a4, a5, a6, a7, a8, a9, a10, a11, a12] 7 v) st ah Q := by
  have e : z_st1 [a0, a1, a2, a3, a4, a5, a6, a7, a8, a9, a10, a11, a12] 7 v = [a0, a1, a2, a3, a4, a5, a6, some v, a8, a9, a10, a11, a12] := by
    show (match z_c2 (some a6) with | true => _ | false => _ : List (Option Value)).set 7 (some v) = _
    rw [h]
    rfl
  rw [e]
  exact k
theorem zt13_7 {a0 a1 a2 a3 a4 a5 a6 a7 a8 a9 a10 a11 a12 : Option Value} (h : z_c2 (some a6) = false) (k : zW G M d rc rs pc [a0, a1, a2, a3, a4, a5, a6, some v, none, a9, a10, a11, a12] st ah Q) : zW G M d rc rs pc (z_st2 [a0, a1, a2, a3, a4, a5, a6, a7, a8, a9, a10, a11, a12] 7 v) st ah Q := by
  have e : z_st2 [a0, a1, a2, a3, a4, a5, a6, a7, a8, a9, a10, a11, a12] 7 v = [a0, a1, a2, a3, a4, a5, a6, some v, none, a9, a10, a11, a12] := by
    show ((match z_c2 (some a6) with | true => _ | false => _ : List (Option Value)).set 7 (some v)).set 8 none = _
    rw [h]
    rfl
  rw [e]
  exact k
theorem zs13_8 {a0 a1 a2 a3 a4 a5 a6 a7 a8 a9 a10 a11 a12 : Option Value} (h : z_c2 (some a7) = false) (k : zW G M d rc rs pc [a0, a1, a2, a3, a4, a5, a6, a7, some v, a9, a10, a11, a12] st ah Q) : zW G M d rc rs pc (z_st1 [a0, a1, a2, a3, a4, a5, a6, a7, a8, a9, a10, a11, a12] 8 v) st ah Q := by
  have e : z_st1 [a0, a1, a2, a3, a4, a5, a6, a7, a8, a9, a10, a11, a12] 8 v = [a0, a1, a2, a3, a4, a5, a6, a7, some v, a9, a10, a11, a12] := by
    show (match z_c2 (some a7) with | true => _ | false => _ : List (Option Value)).set 8 (some v) = _
    rw [h]
    rfl
  rw [e]
  exact k
theorem zt13_8 {a0 a1 a2 a3 a4 a5 a6 a7 a8 a9 a10 a11 a12 : Option Value} (h : z_c2 (some a7) = false) (k : zW G M d rc rs pc [a0, a1, a2, a3, a4, a5, a6, a7, some v, none, a10, a11, a12] st ah Q) : zW G M d rc rs pc (z_st2 [a0, a1, a2, a3, a4, a5, a6, a7, a8, a9, a10, a11, a12] 8 v) st ah Q := by
  have e : z_st2 [a0, a1, a2, a3, a4, a5, a6, a7, a8, a9, a10, a11, a12] 8 v = [a0, a1, a2, a3, a4, a5, a6, a7, some v, none, a10, a11, a12] := by
    show ((match z_c2 (some a7) with | true => _ | false => _ : List (Option Value)).set 8 (some v)).set 9 none = _
    rw [h]
    rfl
  rw [e]
  exact k
theorem zs13_9 {a0 a1 a2 a3 a4 a5 a6 a7 a8 a9 a10 a11 a12 : Option Value} (h : z_c2 (some a8) = false) (k : zW G M d rc rs pc [a0, a1, a2, a3, a4, a5, a6, a7, a8, some v, a10, a11, a12] st ah Q) : zW G M d rc rs pc (z_st1 [a0, a1, a2, a3, a4, a5, a6, a7, a8, a9, a10, a11, a12] 9 v) st ah Q := by
  have e : z_st1 [a0, a1, a2, a3, a4, a5, a6, a7, a8, a9, a10, a11, a12] 9 v = [a0, a1, a2, a3, a4, a5, a6, a7, a8, some v, a10, a11, a12] := by
    show (match z_c2 (some a8) with | true => _ | false => _ : List (Option Value)).set 9 (some v) = _
    rw [h]
    rfl
  rw [e]
  exact k
theorem zt13_9 {a0 a1 a2 a3 a4 a5 a6 a7 a8 a9 a10 a11 a12 : Option Value} (h : z_c2 (some a8) = false) (k : zW G M d rc rs pc [a0, a1, a2, a3, a4, a5, a6, a7, a8, some v, none, a11, a12] st ah Q) : zW G M d rc rs pc (z_st2 [a0, a1, a2, a3, a4, a5, a6, a7, a8, a9, a10, a11, a12] 9 v) st ah Q := by
  have e : z_st2 [a0, a1, a2, a3, a4, a5, a6, a7, a8, a9, a10, a11, a12] 9 v = [a0, a1, a2, a3, a4, a5, a6, a7, a8, some v, none, a11, a12] := by
    show ((match z_c2 (some a8) with | true => _ | false => _ : List (Option Value)).set 9 (some v)).set 10 none = _
    rw [h]
    rfl
  rw [e]
  exact k
theorem zs13_10 {a0 a1 a2 a3 a4 a5 a6 a7 a8 a9 a10 a11 a12 : Option Value} (h : z_c2 (some a9) = false) (k : zW G M d rc rs pc [a0, a1, a2, a3, a4, a5, a6, a7, a8, a9, some v, a11, a12] st ah Q) : zW G M d rc rs pc (z_st1 [a0, a1, a2, a3, a4, a5, a6, a7, a8, a9, a10, a11, a12] 10 v) st ah Q := by
  have e : z_st1 [a0, a1, a2, a3, a4, a5, a6, a7, a8, a9, a10, a11, a12] 10 v = [a0, a1, a2, a3, a4, a5, a6, a7, a8, a9, some v, a11, a12] := by
    show (match z_c2 (some a9) with | true => _ | false => _ : List (Option Value)).set 10 (some v) = _
    rw [h]
    rfl
  rw [e]
  exact k
theorem zt13_10 {a0 a1 a2 a3 a4 a5 a6 a7 a8 a9 a10 a11 a12 : Option Value} (h : z_c2 (some a9) = false) (k : zW G M d rc rs pc [a0, a1, a2, a3, a4, a5, a6, a7, a8, a9, some v, none, a12] st ah Q) : zW G M d rc rs pc (z_st2 [a0, a1, a2, a3, a4, a5, a6, a7, a8, a9, a10, a11, a12] 10 v) st ah Q := by
  have e : z_st2 [a0, a1, a2, a3, a4, a5, a6, a7, a8, a9, a10, a11, a12] 10 v = [a0, a1, a2, a3, a4, a5, a6, a7, a8, a9, some v, none, a12] := by
    show ((match z_c2 (some a9) with | true => _ | false => _ : List (Option Value)).set 10 (some v)).set 11 none = _
    rw [h]
    rfl
  rw [e]
  exact k
theorem zs13_11 {a0 a1 a2 a3 a4 a5 a6 a7 a8 a9 a10 a11 a12 : Option Value} (h : z_c2 (some a10) = false) (k : zW G M d rc rs pc [a0, a1, a2, a3, a4, a5, a6, a7, a8, a9, a10, some v, a12] st ah Q) : zW G M d rc rs pc (z_st1 [a0, a1, a2, a3, a4, a5, a6, a7, a8, a9, a10, a11, a12] 11 v) st ah Q := by
  have e : z_st1 [a0, a1, a2, a3, a4, a5, a6, a7, a8, a9, a10, a11, a12] 11 v = [a0, a1, a2, a3, a4, a5, a6, a7, a8, a9, a10, some v, a12] := by
    show (match z_c2 (some a10) with | true => _ | false => _ : List (Option Value)).set 11 (some v) = _
    rw [h]
    rfl
  rw [e]
  exact k
theorem zt13_11 {a0 a1 a2 a3 a4 a5 a6 a7 a8 a9 a10 a11 a12 : Option Value} (h : z_c2 (some a10) = false) (k : zW G M d rc rs pc [a0, a1, a2, a3, a4, a5, a6, a7, a8, a9, a10, some v, none] st ah Q) : zW G M d rc rs pc (z_st2 [a0, a1, a2, a3, a4, a5, a6, a7, a8, a9, a10, a11, a12] 11 v) st ah Q := by
  have e : z_st2 [a0, a1, a2, a3, a4, a5, a6, a7, a8, a9, a10, a11, a12] 11 v = [a0, a1, a2, a3, a4, a5, a6, a7, a8, a9, a10, some v, none] := by
    show ((match z_c2 (some a10) with | true => _ | false => _ : List (Option Value)).set 11 (some v)).set 12 none = _
    rw [h]
    rfl
  rw [e]
  exact k
theorem zs13_12 {a0 a1 a2 a3 a4 a5 a6 a7 a8 a9 a10 a11 a12 : Option Value} (h : z_c2 (some a11) = false) (k : zW G M d rc rs pc [a0, a1, a2, a3, a4, a5, a6, a7, a8, a9, a10, a11, some v] st ah Q) : zW G M d rc rs pc (z_st1 [a0, a1, a2, a3, a4, a5, a6, a7, a8, a9, a10, a11, a12] 12 v) st ah Q := by
  have e : z_st1 [a0, a1, a2, a3, a4, a5, a6, a7, a8, a9, a10, a11, a12] 12 v = [a0, a1, a2, a3, a4, a5, a6, a7, a8, a9, a10, a11, some v] := by
    show (match z_c2 (some a11) with | true => _ | false => _ : List (Option Value)).set 12 (some v) = _
    rw [h]
    rfl
  rw [e]
  exact k
theorem zs14_0 {a0 a1 a2 a3 a4 a5 a6 a7 a8 a9 a10 a11 a12 a13 : Option Value} (k : zW G M d rc rs pc [some v, a1, a2, a3, a4, a5, a6, a7, a8, a9, a10, a11, a12, a13] st ah Q) : zW G M d rc rs pc (z_st1 [a0, a1, a2, a3, a4, a5, a6, a7, a8, a9, a10, a11, a12, a13] 0 v) st ah Q := k
theorem zt14_0 {a0 a1 a2 a3 a4 a5 a6 a7 a8 a9 a10 a11 a12 a13 : Option Value} (k : zW G M d rc rs pc [some v, none, a2, a3, a4, a5, a6, a7, a8, a9, a10, a11, a12, a13] st ah Q) : zW G M d rc rs pc (z_st2 [a0, a1, a2, a3, a4, a5, a6, a7, a8, a9, a10, a11, a12, a13] 0 v) st ah Q := k
theorem zs14_1 {a0 a1 a2 a3 a4 a5 a6 a7 a8 a9 a10 a11 a12 a13 : Option Value} (h : z_c2 (some a0) = false) (k : zW G M d rc rs pc [a0, some v, a2, a3, a4, a5, a6, a7, a8, a9, a10, a11, a12, a13] st ah Q) : zW G M d rc rs pc (z_st1 [a0, a1, a2, a3, a4, a5, a6, a7, a8, a9, a10, a11, a12, a13] 1 v) st ah Q := by
  have e : z_st1 [a0, a1, a2, a3, a4, a5, a6, a7, a8, a9, a10, a11, a12, a13] 1 v = [a0, some v, a2, a3, a4, a5, a6, a7, a8, a9, a10, a11, a12, a13] := by
    show (match z_c2 (some a0) with | true => _ | false => _ : List (Option Value)).set 1 (some v) = _
    rw [h]
    rfl
  rw [e]
  exact k
theorem zt14_1 {a0 a1 a2 a3 a4 a5 a6 a7 a8 a9 a10 a11 a12 a13 : Option Value} (h : z_c2 (some a0) = false) (k : zW G M d rc rs pc [a0, some v, none, a3, a4, a5, a6, a7, a8, a9, a10, a11, a12, a13] st ah Q) : zW G M d rc rs pc (z_st2 [a0, a1, a2, a3, a4, a5, a6, a7, a8, a9, a10, a11, a12, a13] 1 v) st ah Q := by
  have e : z_st2 [a0, a1, a2, a3, a4, a5, a6, a7, a8, a9, a10, a11, a12, a13] 1 v = [a0, some v, none, a3, a4, a5, a6, a7, a8, a9, a10, a11, a12, a13] := by
    show ((match z_c2 (some a0) with | true => _ | false => _ : List (Option Value)).set 1 (some v)).set 2 none = _
    rw [h]
    rfl
  rw [e]
  exact k
theorem zs14_2 {a0 a1 a2 a3 a4 a5 a6 a7 a8 a9 a10 a11 a12 a13 : Option Value} (h : z_c2 (some a1) = false) (k : zW G M d rc rs pc [a0, a1, some v, a3, a4, a5, a6, a7, a8, a9, a10, a11, a12, a13] st ah Q) : zW G M d rc rs pc (z_st1 [a0, a1, a2, a3, a4, a5, a6, a7, a8, a9, a10, a11, a12, a13] 2 v) st ah Q := by
  have e : z_st1 [a0, a1, a2, a3, a4, a5, a6, a7, a8, a9, a10, a11, a12, a13] 2 v = [a0, a1, some v, a3, a4, a5, a6, a7, a8, a9, a10, a11, a12, a13] := by
    show (match z_c2 (some a1) with | true => _ | false => _ : List (Option Value)).set 2 (some v) = _
    rw [h]
    rfl
  rw [e]
  exact k
theorem zt14_2 {a0 a1 a2 a3 a4 a5 a6 a7 a8 a9 a10 a11 a12 a13 : Option Value} (h : z_c2 (some a1) = false) (k : zW G M d rc rs pc [a0, a1, some v, none, a4, a5, a6, a7, a8, a9, a10, a11, a12, a13] st ah Q) : zW G M d rc rs pc (z_st2 [a0, a1, a2, a3, a4, a5, a6, a7, a8, a9, a10, a11, a12, a13] 2 v) st ah Q := by
  have e : z_st2 [a0, a1, a2, a3, a4, a5, a6, a7, a8, a9, a10, a11, a12, a13] 2 v = [a0, a1, some v, none, a4, a5, a6, a7, a8, a9, a10, a11, a12, a13] := by
    show ((match z_c2 (some a1) with | true => _ | false => _ : List (Option Value)).set 2 (some v)).set 3 none = _
    rw [h]
    rfl
  rw [e]
  exact k
theorem zs14_3 {a0 a1 a2 a3 a4 a5 a6 a7 a8 a9 a10 a11 a12 a13 : Option Value} (h : z_c2 (some a2) = false) (k : zW G M d rc rs pc [a0, a1, a2, some v, a4, a5, a6, a7, a8, a9, a10, a11, a12, a13] st ah Q) : zW G M d rc rs pc (z_st1 [a0, a1, a2, a3, a4, a5, a6, a7, a8, a9, a10, a11, a12, a13] 3 v) st ah Q := by
  have e : z_st1 [a0, a1, a2, a3, a4, a5, a6, a7, a8, a9, a10, a11, a12, a13] 3 v = [a0, a1, a2, some v, a4, a5, a6, a7, a8, a9, a10, a11, a12, a13] := by
    show (match z_c2 (some a2) with | true => _ | false => _ : List (Option Value)).set 3 (some v) = _
    rw [h]
    rfl
  rw [e]
  exact k
theorem zt14_3 {a0 a1 a2 a3 a4 a5 a6 a7 a8 a9 a10 a11 a12 a13 : Option Value} (h : z_c2 (some a2) = false) (k : zW G M d rc rs pc [a0, a1, a2, some v, none, a5, a6, a7, a8, a9, a10, a11, a12, a13] st ah Q) : zW G M d rc rs pc (z_st2 [a0, a1, a2, a3, a4, a5, a6, a7, a8, a9, a10, a11, a12, a13] 3 v) st ah Q := by
  have e : z_st2 [a0, a1, a2, a3, a4, a5, a6, a7, a8, a9, a10, a11, a12, a13] 3 v = [a0, a1, a2, some v, none, a5, a6, a7, a8, a9, a10, a11, a12, a13] := by
    show ((match z_c2 (some a2) with | true => _ | false => _ : List (Option Value)).set 3 (some v)).set 4 none = _
    rw [h]
    rfl
  rw [e]
  exact k
theorem zs14_4 {a0 a1 a2 a3 a4 a5 a6 a7 a8 a9 a10 a11 a12 a13 : Option Value} (h : z_c2 (some a3) = false) (k : zW G M d rc rs pc [a0, a1, a2, a3, some v, a5, a6, a7, a8, a9, a10, a11, a12, a13] st ah Q) : zW G M d rc rs pc (z_st1 [a0, a1, a2, a3, a4, a5, a6, a7, a8, a9, a10, a11, a12, a13] 4 v) st ah Q := by
  have e : z_st1 [a0, a1, a2, a3, a4, a5, a6, a7, a8, a9, a10, a11, a12, a13] 4 v = [a0, a1, a2, a3, some v, a5, a6, a7, a8, a9, a10, a11, a12, a13] := by
    show (match z_c2 (some a3) with | true => _ | false => _ : List (Option Value)).set 4 (some v) = _
    rw [h]
    rfl
  rw [e]
  exact k
theorem zt14_4 {a0 a1 a2 a3 a4 a5 a6 a7 a8 a9 a10 a11 a12 a13 : Option Value} (h : z_c2 (some a3) = false) (k : zW G M d rc rs pc [a0, a1, a2, a3, some v, none, a6, a7, a8, a9, a10, a11, a12, a13] st ah Q) : zW G M d rc rs pc (z_st2 [a0, a1, a2, a3, a4, a5, a6, a7, a8, a9, a10, a11, a12, a13] 4 v) st ah Q := by
  have e : z_st2 [a0, a1, a2, a3, a4, a5, a6, a7, a8, a9, a10, a11, a12, a13] 4 v = [a0, a1, a2, a3, some v, none, a6, a7, a8, a9, a10, a11, a12, a13] := by
    show ((match z_c2 (some a3) with | true => _ | false => _ : List (Option Value)).set 4 (some v)).set 5 none = _
    rw [h]
    rfl
  rw [e]
  exact k
theorem zs14_5 {a0 a1 a2 a3 a4 a5 a6 a7 a8 a9 a10 a11 a12 a13 : Option Value} (h : z_c2 (some a4) = false) (k : zW G M d rc rs pc [a0, a1, a2, a3, a4, some v, a6, a7, a8, a9, a10, a11, a12, a13] st ah Q) : zW G M d rc rs pc (z_st1 [a0, a1, a2, a3, a4, a5, a6, a7, a8, a9, a10, a11, a12, a13] 5 v) st ah Q := by
  have e : z_st1 [a0, a1, a2, a3, a4, a5, a6, a7, a8, a9, a10, a11, a12, a13] 5 v = [a0, a1, a2, a3, a4, some v, a6, a7, a8, a9, a10, a11, a12, a13] := by
    show (match z_c2 (some a4) with | true => _ | false => _ : List (Option Value)).set 5 (some v) = _
    rw [h]
    rfl
  rw [e]
  exact k
theorem zt14_5 {a0 a1 a2 a3 a4 a5 a6 a7 a8 a9 a10 a11 a12 a13 : Option Value} (h : z_c2 (some a4) = false) (k : zW G M d rc rs pc [a0, a1, a2, a3, a4, some v, none, a7, a8, a9, a10, a11, a12, a13] st ah Q) : zW G M d rc rs pc (z_st2 [a0, a1, a2, a3, a4, a5, a6, a7, a8, a9, a10, a11, a12, a13] 5 v) st ah Q := by
  have e : z_st2 [a0, a1, a2, a3, a4, a5, a6, a7, a8, a9, a10, a11, a12, a13] 5 v = [a0, a1, a2, a3, a4, some v, none, a7, a8, a9, a10, a11, a12, a13] := by
    show ((match z_c2 (some a4) with | true => _ | false => _ : List (Option Value)).set 5 (some v)).set 6 none = _
    rw [h]
    rfl
  rw [e]
  exact k
theorem zs14_6 {a0 a1 a2 a3 a4 a5 a6 a7 a8 a9 a10 a11 a12 a13 : Option Value} (h : z_c2 (some a5) = false) (k : zW G M d rc rs pc [a0, a1, a2, a3, a4, a5, some v, a7, a8, a9, a10, a11, a12, a13] st ah Q) : zW G M d rc rs pc (z_st1 [a0, a1, a2, a3, a4, a5, a6, a7, a8, a9, a10, a11, a12, a13] 6 v) st ah Q := by
  have e : z_st1 [a0, a1, a2, a3, a4, a5, a6, a7, a8, a9, a10, a11, a12, a13] 6 v = [a0, a1, a2, a3, a4, a5, some v, a7, a8, a9, a10, a11, a12, a13] := by
    show (match z_c2 (some a5) with | true => _ | false => _ : List (Option Value)).set 6 (some v) = _
    rw [h]
    rfl
  rw [e]
  exact k
theorem zt14_6 {a0 a1 a2 a3 a4 a5 a6 a7 a8 a9 a10 a11 a12 a13 : Option Value} (h : z_c2 (some a5) = false) (k : zW G M d rc rs pc [a0, a1, a2, a3, a4, a5, some v, none, a8, a9, a10, a11, a12, a13] st ah Q) : zW G M d rc rs pc (z_st2 [a0, a1, a2, a3, a4, a5, a6, a7, a8, a9, a10, a11, a12, a13] 6 v) st ah Q := by
  have e : z_st2 [a0, a1, a2, a3, a4, a5, a6, a7, a8, a9, a10, a11, a12, a13] 6 v = [a0, a1, a2, a3, a4, a5, some v, none, a8, a9, a10, a11, a12, a13] := by
    show ((match z_c2 (some a5) with | true => _ | false => _ : List (Option Value)).set 6 (some v)).set 7 none = _
    rw [h]
    rfl
  rw [e]
  exact k
theorem zs14_7 {a0 a1 a2 a3 a4 a5 a6 a7 a8 a9 a10 a11 a12 a13 : Option Value} (h : z_c2 (some a6) = false) (k : zW G M d rc rs pc [a0, a1, a2, a3, a4, a5, a6, some v, a8, a9, a10, a11, a12, a13] st ah Q) : zW G M d rc rs pc (z_st1 [a0, a1, a2, a3, a4, a5, a6, a7, a8, a9, a10, a11, a12, a13] 7 v) st ah Q := by
  have e : z_st1 [a0, a1, a2, a3, a4, a5, a6, a7, a8, a9, a10, a11, a12, a13] 7 v = [a0, a1, a2, a3, a4, a5, a6, some v, a8, a9, a10, a11, a12, a13] := by
    show (match z_c2 (some a6) with | true => _ | false => _ : List (Option Value)).set 7 (some v) = _
    rw [h]
    rfl
  rw [e]
  exact k
theorem zt14_7 {a0 a1 a2 a3 a4 a5 a6 a7 a8 a9 a10 a11 a12 a13 : Option Value} (h : z_c2 (some a6) = false) (k : zW G M d rc rs pc [a0, a1, a2, a3, a4, a5, a6, some v, none, a9, a10, a11, a12, a13] st ah Q) : zW G M d rc rs pc (z_st2 [a0, a1, a2, a3, a4, a5, a6, a7, a8, a9, a10, a11, a12, a13] 7 v) st ah Q := by
  have e : z_st2 [a0, a1, a2, a3, a4, a5, a6, a7, a8, a9, a10, a11, a12, a13] 7 v = [a0, a1, a2, a3, a4, a5, a6, some v, none, a9, a10, a11, a12, a13] := by
    show ((match z_c2 (some a6) with | true => _ | false => _ : List (Option Value)).set 7 (some v)).set 8 none = _
    rw [h]
    rfl
  rw [e]
  exact k
theorem zs14_8 {a0 a1 a2 a3 a4 a5 a6 a7 a8 a9 a10 a11 a12 a13 : Option Value} (h : z_c2 (some a7) = false) (k : zW G M d rc rs pc [a0, a1, a2, a3, a4, a5, a6, a7, some v, a9, a10, a11, a12, a13] st ah Q) : zW G M d rc rs pc (z_st1 [a0, a1, a2, a3, a4, a5, a6, a7, a8, a9, a10, a11, a12, a13] 8 v) st ah Q := by
  have e : z_st1 [a0, a1, a2, a3, a4, a5, a6, a7, a8, a9, a10, a11, a12, a13] 8 v = [a0, a1, a2, a3, a4, a5, a6, a7, some v, a9, a10, a11, a12, a13] := by
    show (match z_c2 (some a7) with | true => _ | false => _ : List (Option Value)).set 8 (some v) = _
    rw [h]
    rfl
  rw [e]
  exact k
theorem zt14_8 {a0 a1 a2 a3 a4 a5 a6 a7 a8 a9 a10 a11 a12 a13 : Option Value} (h : z_c2 (some a7) = false) (k : zW G M d rc rs pc [a0, a1, a2, a3, a4, a5, a6, a7, some v, none, a10, a11, a12, a13] st ah Q) : zW G M d rc rs pc (z_st2 [a0, a1, a2, a3, a4, a5, a6, a7, a8, a9, a10, a11, a12, a13] 8 v) st ah Q := by
  have e : z_st2 [a0, a1, a2, a3, a4, a5, a6, a7, a8, a9, a10, a11, a12, a13] 8 v = [a0, a1, a2, a3, a4, a5, a6, a7, some v, none, a10, a11, a12, a13] := by
    show ((match z_c2 (some a7) with | true => _ | false => _ : List (Option Value)).set 8 (some v)).set 9 none = _
    rw [h]
    rfl
  rw [e]
  exact k
theorem zs14_9 {a0 a1 a2 a3 a4 a5 a6 a7 a8 a9 a10 a11 a12 a13 : Option Value} (h : z_c2 (some a8) = false) (k : zW G M d rc rs pc [a0, a1, a2, a3, a4, a5, a6, a7, a8, some v, a10, a11, a12, a13] st ah Q) : zW G M d rc rs pc (z_st1 [a0, a1, a2, a3, a4, a5, a6, a7, a8, a9, a10, a11, a12, a13] 9 v) st ah Q := by
  have e : z_st1 [a0, a1, a2, a3, a4, a5, a6, a7, a8, a9, a10, a11, a12, a13] 9 v = [a0, a1, a2, a3, a4, a5, a6, a7, a8, some v, a10, a11, a12, a13] := by
    show (match z_c2 (some a8) with | true => _ | false => _ : List (Option Value)).set 9 (some v) = _
    rw [h]
    rfl
  rw [e]
  exact k
theorem zt14_9 {a0 a1 a2 a3 a4 a5 a6 a7 a8 a9 a10 a11 a12 a13 : Option Value} (h : z_c2 (some a8) = false) (k : zW G M d rc rs pc [a0, a1, a2, a3, a4, a5, a6, a7, a8, some v, none, a11, a12, a13] st ah Q) : zW G M d rc rs pc (z_st2 [a0, a1, a2, a3, a4, a5, a6, a7, a8, a9, a10, a11, a12, a13] 9 v) st ah Q := by
  have e : z_st2 [a0, a1, a2, a3, a4, a5, a6, a7, a8, a9, a10, a11, a12, a13] 9 v = [a0, a1, a2, a3, a4, a5, a6, a7, a8, some v, none, a11, a12, a13] := by
    show ((match z_c2 (some a8) with | true => _ | false => _ : List (Option Value)).set 9 (some v)).set 10 none = _
    rw [h]
    rfl
  rw [e]
  exact k
theorem zs14_10 {a0 a1 a2 a3 a4 a5 a6 a7 a8 a9 a10 a11 a12 a13 : Option Value} (h : z_c2 (some a9) = false) (k : zW G M d rc rs pc [a0, a1, a2, a3, a4, a5, a6, a7, a8, a9, some v, a11, a12, a13] st ah Q) : zW G M d rc rs pc (z_st1 [a0, a1, a2, a3, a4, a5, a6, a7, a8, a9, a10, a11, a12, a13] 10 v) st ah Q := by
  have e : z_st1 [a0, a1, a2, a3, a4, a5, a6, a7, a8, a9, a10, a11, a12, a13] 10 v = [a0, a1, a2, a3, a4, a5, a6, a7, a8, a9, some v, a11, a12, a13] := by
    show (match z_c2 (some a9) with | true => _ | false => _ : List (Option Value)).set 10 (some v) = _
    rw [h]
    rfl
  rw [e]
  exact k
theorem zt14_10 {a0 a1 a2 a3 a4 a5 a6 a7 a8 a9 a10 a11 a12 a13 : Option Value} (h : z_c2 (some a9) = false) (k : zW G M d rc rs pc [a0, a1, a2, a3, a4, a5, a6, a7, a8, a9, some v, none, a12, a13] st ah Q) : zW G M d rc rs pc (z_st2 [a0, a1, a2, a3, a4, a5, a6, a7, a8, a9, a10, a11, a12, a13] 10 v) st ah Q := by
  have e : z_st2 [a0, a1, a2, a3, a4, a5, a6, a7, a8, a9, a10, a11, a12, a13] 10 v = [a0, a1, a2, a3, a4, a5, a6, a7, a8, a9, some v, none, a12, a13] := by
    show ((match z_c2 (some a9) with | true => _ | false => _ : List (Option Value)).set 10 (some v)).set 11 none = _
    rw [h]
    rfl
  rw [e]
  exact k
theorem zs14_11 {a0 a1 a2 a3 a4 a5 a6 a7 a8 a9 a10 a11 a12 a13 : Option Value} (h : z_c2 (some a10) = false) (k : zW G M d rc rs pc [a0, a1, a2, a3, a4, a5, a6, a7, a8, a9, a10, some v, a12, a13] st ah Q) : zW G M d rc rs pc (z_st1 [a0, a1, a2, a3, a4, a5, a6, a7, a8, a9, a10, a11, a12, a13] 11 v) st ah Q := by
  have e : z_st1 [a0, a1, a2, a3, a4, a5, a6, a7, a8, a9, a10, a11, a12, a13] 11 v = [a0, a1, a2, a3, a4, a5, a6, a7, a8, a9, a10, some v, a12, a13] := by
    show (match z_c2 (some a10) with | true => _ | false => _ : List (Option Value)).set 11 (some v) = _
    rw [h]
    rfl
  rw [e]
  exact k
theorem zt14_11 {a0 a1 a2 a3 a4 a5 a6 a7 a8 a9 a10 a11 a12 a13 : Option Value} (h : z_c2 (some a10) = false) (k : zW G M d rc rs pc [a0, a1, a2, a3, a4, a5, a6, a7, a8, a9, a10, some v, none, a13] st ah Q) : zW G M d rc rs pc (z_st2 [a0, a1, a2, a3, a4, a5, a6, a7, a8, a9, a10, a11, a12, a13] 11 v) st ah Q := by
  have e : z_st2 [a0, a1, a2, a3, a4, a5, a6, a7, a8, a9, a10, a11, a12, a13] 11 v = [a0, a1, a2, a3, a4, a5, a6, a7, a8, a9, a10, some v, none, a13] := by
    show ((match z_c2 (some a10) with | true => _ | false => _ : List (Option Value)).set 11 (some v)).set 12 none = _
    rw [h]
    rfl
  rw [e]
  exact k
theorem zs14_12 {a0 a1 a2 a3 a4 a5 a6 a7 a8 a9 a10 a11 a12 a13 : Option Value} (h : z_c2 (some a11) = false) (k : zW G M d rc rs pc [a0, a1, a2, a3, a4, a5, a6, a7, a8, a9, a10, a11, some v, a13] st ah Q) : zW G M d rc rs pc (z_st1 [a0, a1, a2, a3, a4, a5, a6, a7, a8, a9, a10, a11, a12, a13] 12 v) st ah Q := by
  have e : z_st1 [a0, a1, a2, a3, a4, a5, a6, a7, a8, a9, a10, a11, a12, a13] 12 v = [a0, a1, a2, a3, a4, a5, a6, a7, a8, a9, a10, a11, some v, a13] := by
    show (match z_c2 (some a11) with | true => _ | false => _ : List (Option Value)).set 12 (some v) = _
    rw [h]
    rfl
  rw [e]
  exact k
theorem zt14_12 {a0 a1 a2 a3 a4 a5 a6 a7 a8 a9 a10 a11 a12 a13 : Option Value} (h : z_c2 (some a11) = false) (k : zW G M d rc rs pc [a0, a1, a2, a3, a4, a5, a6, a7, a8, a9, a10, a11, some v, none] st ah Q) : zW G M d rc rs pc (z_st2 [a0, a1, a2, a3, a4, a5, a6, a7, a8, a9, a10, a11, a12, a13] 12 v) st ah Q := by
  have e : z_st2 [a0, a1, a2, a3, a4, a5, a6, a7, a8, a9, a10, a11, a12, a13] 12 v = [a0, a1, a2, a3, a4, a5, a6, a7, a8, a9, a10, a11, some v, none] := by
    show ((match z_c2 (some a11) with | true => _ | false => _ : List (Option Value)).set 12 (some v)).set 13 none = _
    rw [h]
    rfl
  rw [e]
  exact k
theorem zs14_13 {a0 a1 a2 a3 a4 a5 a6 a7 a8 a9 a10 a11 a12 a13 : Option Value} (h : z_c2 (some a12) = false) (k : zW G M d rc rs pc [a0, a1, a2, a3, a4, a5, a6, a7, a8, a9, a10, a11, a12, some v] st ah Q) : zW G M d rc rs pc (z_st1 [a0, a1, a2, a3, a4, a5, a6, a7, a8, a9, a10, a11, a12, a13] 13 v) st ah Q := by
  have e : z_st1 [a0, a1, a2, a3, a4, a5, a6, a7, a8, a9, a10, a11, a12, a13] 13 v = [a0, a1, a2, a3, a4, a5, a6, a7, a8, a9, a10, a11, a12, some v] := by
    show (match z_c2 (some a12) with | true => _ | false => _ : List (Option Value)).set 13 (some v) = _
    rw [h]
    rfl
  rw [e]
  exact k
theorem zs15_0 {a0 a1 a2 a3 a4 a5 a6 a7 a8 a9 a10 a11 a12 a13 a14 : Option Value} (k : zW G M d rc rs pc [some v, a1, a2, a3, a4, a5, a6, a7, a8, a9, a10, a11, a12, a13, a14] st ah Q) : zW G M d rc rs pc (z_st1 [a0, a1, a2, a3, a4, a5, a6, a7, a8, a9, a10, a11, a12, a13, a14] 0 v) st ah Q := k
theorem zt15_0 {a0 a1 a2 a3 a4 a5 a6 a7 a8 a9 a10 a11 a12 a13 a14 : Option Value} (k : zW G M d rc rs pc [some v, none, a2, a3, a4, a5, a6, a7, a8, a9, a10, a11, a12, a13, a14] st ah Q) : zW G M d rc rs pc (z_st2 [a0, a1, a2, a3, a4, a5, a6, a7, a8, a9, a10, a11, a12, a13, a14] 0 v) st ah Q := k
theorem zs15_1 {a0 a1 a2 a3 a4 a5 a6 a7 a8 a9 a10 a11 a12 a13 a14 : Option Value} (h : z_c2 (some a0) = false) (k : zW G M d rc rs pc [a0, some v, a2, a3, a4, a5, a6, a7, a8, a9, a10, a11, a12, a13, a14] st ah Q) : zW G M d rc rs pc (z_st1 [a0, a1, a2, a3, a4, a5, a6, a7, a8, a9, a10, a11, a12, a13, a14] 1 v) st ah Q := by
  have e : z_st1 [a0, a1, a2, a3, a4, a5, a6, a7, a8, a9, a10, a11, a12, a13, a14] 1 v = [a0, some v, a2, a3, a4, a5, a6, a7, a8, a9, a10, a11, a12, a13, a14] := by
    show (match z_c2 (some a0) with | true => _ | false => _ : List (Option Value)).set 1 (some v) = _
    rw [h]
    rfl
  rw [e]
  exact k
theorem zt15_1 {a0 a1 a2 a3 a4 a5 a6 a7 a8 a9 a10 a11 a12 a13 a14 : Option Value} (h : z_c2 (some a0) = false) (k : zW G M d rc rs pc [a0, some v, none, a3, a4, a5, a6, a7, a8, a9, a10, a11, a12, a13, a14] st ah Q) : zW G M d rc rs pc (z_st2 [a0, a1, a2, a3, a4, a5, a6, a7, a8, a9, a10, a11, a12, a13, a14] 1 v) st ah Q := by
  have e : z_st2 [a0, a1, a2, a3, a4, a5, a6, a7, a8, a9, a10, a11, a12, a13, a14] 1 v = [a0, some v, none, a3, a4, a5, a6, a7, a8, a9, a10, a11, a12, a13, a14] := by
    show ((match z_c2 (some a0) with | true => _ | false => _ : List (Option Value)).set 1 (some v)).set 2 none = _
    rw [h]
    rfl
  rw [e]
  exact k
theorem zs15_2 {a0 a1 a2 a3 a4 a5 a6 a7 a8 a9 a10 a11 a12 a13 a14 : Option Value} (h : z_c2 (some a1) = false) (k : zW G M d rc rs pc [a0, a1, some v, a3, a4, a5, a6, a7, a8, a9, a10, a11, a12, a13, a14] st ah Q) : zW G M d rc rs pc (z_st1 [a0, a1, a2, a3, a4, a5, a6, a7, a8, a9, a10, a11, a12, a13, a14] 2 v) st ah Q := by
  have e : z_st1 [a0, a1, a2, a3, a4, a5, a6, a7, a8, a9, a10, a11, a12, a13, a14] 2 v = [a0, a1, some v, a3, a4, a5, a6, a7, a8, a9, a10, a11, a12, a13, a14] := by
    show (match z_c2 (some a1) with | true => _ | false => _ : List (Option Value)).set 2 (some v) = _
    rw [h]
    rfl
  rw [e]
  exact k
theorem zt15_2 {a0 a1 a2 a3 a4 a5 a6 a7 a8 a9 a10 a11 a12 a13 a14 : Option Value} (h : z_c2 (some a1) = false) (k : zW G M d rc rs pc [a0, a1, some v, none, a4, a5, a6, a7, a8, a9, a10, a11, a12, a13, a14] st ah Q) : zW G M d rc rs pc (z_st2 [a0, a1, a2, a3, a4, a5, a6, a7, a8, a9, a10, a11, a12, a13, a14] 2 v) st ah Q := by
  have e : z_st2 [a0, a1, a2, a3, a4, a5, a6, a7, a8, a9, a10, a11, a12, a13, a14] 2 v = [a0, a1, some v, none, a4, a5, a6, a7, a8, a9, a10, a11, a12, a13, a14] := by
    show ((match z_c2 (some a1) with | true => _ | false => _ : List (Option Value)).set 2 (some v)).set 3 none = _
    rw [h]
    rfl
  rw [e]
  exact k
theorem zs15_3 {a0 a1 a2 a3 a4 a5 a6 a7 a8 a9 a10 a11 a12 a13 a14 : Option Value} (h : z_c2 (some a2) = false) (k : zW G M d rc rs pc [a0, a1, a2, some v, a4, a5, a6, a7, a8, a9, a10, a11, a12, a13, a14] st ah Q) : zW G M d rc rs pc (z_st1 [a0, a1, a2, a3, a4, a5, a6, a7, a8, a9, a10, a11, a12, a13, a14] 3 v) st ah Q := by
  have e : z_st1 [a0, a1, a2, a3, a4, a5, a6, a7, a8, a9, a10, a11, a12, a13, a14] 3 v = [a0, a1, a2, some v, a4, a5, a6, a7, a8, a9, a10, a11, a12, a13, a14] := by
    show (match z_c2 (some a2) with | true => _ | false => _ : List (Option Value)).set 3 (some v) = _
    rw [h]
    rfl
  rw [e]
  exact k
theorem zt15_3 {a0 a1 a2 a3 a4 a5 a6 a7 a8 a9 a10 a11 a12 a13 a14 : Option Value} (h : z_c2 (some a2) = false) (k : zW G M d rc rs pc [a0, a1, a2, some v, none, a5, a6, a7, a8, a9, a10, a11, a12, a13, a14] st ah Q) : zW G M d rc rs pc (z_st2 [a0, a1, a2, a3, a4, a5, a6, a7, a8, a9, a10, a11, a12, a13, a14] 3 v) st ah Q := by
  have e : z_st2 [a0, a1, a2, a3, a4, a5, a6, a7, a8, a9, a10, a11, a12, a13, a14] 3 v = [a0, a1, a2, some v, none, a5, a6, a7, a8, a9, a10, a11, a12, a13, a14] := by
    show ((match z_c2 (some a2) with | true => _ | false => _ : List (Option Value)).set 3 (some v)).set 4 none = _
    rw [h]
    rfl
  rw [e]
  exact k
theorem zs15_4 {a0 a1 a2 a3 a4 a5 a6 a7 a8 a9 a10 a11 a12 a13 a14 : Option Value} (h : z_c2 (some a3) = false) (k : zW G M d rc rs pc [a0, a1, a2, a3, some v, a5, a6, a7, a8, a9, a10, a11, a12, a13, a14] st ah Q) : zW G M d rc rs pc (z_st1 [a0, a1, a2, a3, a4, a5, a6, a7, a8, a9, a10, a11, a12, a13, a14] 4 v) st ah Q := by
  have e : z_st1 [a0, a1, a2, a3, a4, a5, a6, a7, a8, a9, a10, a11, a12, a13, a14] 4 v = [a0, a1, a2, a3, some v, a5, a6, a7, a8, a9, a10, a11, a12, a13, a14] := by
    show (match z_c2 (some a3) with | true => _ | false => _ : List (Option Value)).set 4 (some v) = _
    rw [h]
    rfl
  rw [e]
  exact k
theorem zt15_4 {a0 a1 a2 a3 a4 a5 a6 a7 a8 a9 a10 a11 a12 a13 a14 : Option Value} (h : z_c2 (some a3) = false) (k : zW G M d rc rs pc [a0, a1, a2, a3, some v, none, a6, a7, a8, a9, a10, a11, a12, a13, a14] st ah Q) : zW G M d rc rs pc (z_st2 [a0, a1, a2, a3, a4, a5, a6, a7, a8, a9, a10, a11, a12, a13, a14] 4 v) st ah Q := by
  have e : z_st2 [a0, a1, a2, a3, a4, a5, a6, a7, a8, a9, a10, a11, a12, a13, a14] 4 v = [a0, a1, a2, a3, some v, none, a6, a7, a8, a9, a10, a11, a12, a13, a14] := by
    show ((match z_c2 (some a3) with | true => _ | false => _ : List (Option Value)).set 4 (some v)).set 5 none = _
    rw [h]
    rfl
  rw [e]
  exact k
theorem zs15_5 {a0 a1 a2 a3 a4 a5 a6 a7 a8 a9 a10 a11 a12 a13 a14 : Option Value} (h : z_c2 (some a4) = false) (k : zW G M d rc rs pc [a0, a1, a2, a3, a4, some v, a6, a7, a8, a9, a10, a11, a12, a13, a14] st ah Q) : zW G M d rc rs pc (z_st1 [a0, a1, a2, a3, a4, a5, a6, a7, a8, a9, a10, a11, a12, a13, a14] 5 v) st ah Q := by
  have e : z_st1 [a0, a1, a2, a3, a4, a5, a6, a7, a8, a9, a10, a11, a12, a13, a14] 5 v = [a0, a1, a2, a3, a4, some v, a6, a7, a8, a9, a10, a11, a12, a13, a14] := by
    show (match z_c2 (some a4) with | true => _ | false => _ : List (Option Value)).set 5 (some v) = _
    rw [h]
    rfl
  rw [e]
  exact k
theorem zt15_5 {a0 a1 a2 a3 a4 a5 a6 a7 a8 a9 a10 a11 a12 a13 a14 : Option Value} (h : z_c2 (some a4) = false) (k : zW G M d rc rs pc [a0, a1, a2, a3, a4, some v, none, a7, a8, a9, a10, a11, a12, a13, a14] st ah Q) : zW G M d rc rs pc (z_st2 [a0, a1, a2, a3, a4, a5, a6, a7, a8, a9, a10, a11, a12, a13, a14] 5 v) st ah Q := by
  have e : z_st2 [a0, a1, a2, a3, a4, a5, a6, a7, a8, a9, a10, a11, a12, a13, a14] 5 v = [a0, a1, a2, a3, a4, some v, none, a7, a8, a9, a10, a11, a12, a13, a14] := by
    show ((match z_c2 (some a4) with | true => _ | false => _ : List (Option Value)).set 5 (some v)).set 6 none = _
    rw [h]
    rfl
  rw [e]
  exact k
theorem zs15_6 {a0 a1 a2 a3 a4 a5 a6 a7 a8 a9 a10 a11 a12 a13 a14 : Option Value} (h : z_c2 (some a5) = false) (k : zW G M d rc rs pc [a0, a1, a2, a3, a4, a5, some v, a7, a8, a9, a10, a11, a12, a13, a14] st ah Q) : zW G M d rc rs pc (z_st1 [a0, a1, a2, a3, a4, a5, a6, a7, a8, a9, a10, a11, a12, a13, a14] 6 v) st ah Q := by
  have e : z_st1 [a0, a1, a2, a3, a4, a5, a6, a7, a8, a9, a10, a11, a12, a13, a14] 6 v = [a0, a1, a2, a3, a4, a5, some v, a7, a8, a9, a10, a11, a12, a13, a14] := by
    show (match z_c2 (some a5) with | true => _ | false => _ : List (Option Value)).set 6 (some v) = _
    rw [h]
    rfl
  rw [e]
  exact k
theorem zt15_6 {a0 a1 a2 a3 a4 a5 a6 a7 a8 a9 a10 a11 a12 a13 a14 : Option Value} (h : z_c2 (some a5) = false) (k : zW G M d rc rs pc [a0, a1, a2, a3, a4, a5, some v, none, a8, a9, a10, a11, a12, a13, a14] st ah Q) : zW G M d rc rs pc (z_st2 [a0, a1, a2, a3, a4, a5, a6, a7, a8, a9, a10, a11, a12, a13, a14] 6 v) st ah Q := by
  have e : z_st2 [a0, a1, a2, a3, a4, a5, a6, a7, a8, a9, a10, a11, a12, a13, a14] 6 v = [a0, a1, a2, a3, a4, a5, some v, none, a8, a9, a10, a11, a12, a13, a14] := by
    show ((match z_c2 (some a5) with | true => _ | false => _ : List (Option Value)).set 6 (some v)).set 7 none = _
    rw [h]
    rfl
  rw [e]
  exact k
theorem zs15_7 {a0 a1 a2 a3 a4 a5 a6 a7 a8 a9 a10 a11 a12 a13 a14 : Option Value} (h : z_c2 (some a6) = false) (k : zW G M d rc rs pc [a0, a1, a2, a3, a4, a5, a6, some v, a8, a9, a10, a11, a12, a13, a14] st ah Q) : zW G M d rc rs pc (z_st1 [a0, a1, a2, a3, a4, a5, a6, a7, a8, a9, a10, a11, a12, a13, a14] 7 v) st ah Q := by
  have e : z_st1 [a0, a1, a2, a3, a4, a5, a6, a7, a8, a9, a10, a11, a12, a13, a14] 7 v = [a0, a1, a2, a3, a4, a5, a6, some v, a8, a9, a10, a11, a12, a13, a14] := by
    show (match z_c2 (some a6) with | true => _ | false => _ : List (Option Value)).set 7 (some v) = _
    rw [h]
    rfl
  rw [e]
  exact k
theorem zt15_7 {a0 a1 a2 a3 a4 a5 a6 a7 a8 a9 a10 a11 a12 a13 a14 : Option Value} (h : z_c2 (some a6) = false) (k : zW G M d rc rs pc [a0, a1, a2, a3, a4, a5, a6, some v, none, a9, a10, a11, a12, a13, a14] st ah Q) : zW G M d rc rs pc (z_st2 [a0, a1, a2, a3, a4, a5, a6, a7, a8, a9, a10, a11, a12, a13, a14] 7 v) st ah Q := by
  have e : z_st2 [a0, a1, a2, a3, a4, a5, a6, a7, a8, a9, a10, a11, a12, a13, a14] 7 v = [a0, a1, a2, a3, a4, a5, a6, some v, none, a9, a10, a11, a12, a13, a14] := by
    show ((match z_c2 (some a6) with | true => _ | false => _ : List (Option Value)).set 7 (some v)).set 8 none = _
    rw [h]
    rfl
  rw [e]
  exact k
theorem zs15_8 {a0 a1 a2 a3 a4 a5 a6 a7 a8 a9 a10 a11 a12 a13 a14 : Option Value} (h : z_c2 (some a7) = false) (k : zW G M d rc rs pc [a0, a1, a2, a3, a4, a5, a6, a7, some v, a9, a10, a11, a12, a13, a14] st ah Q) : zW G M d rc rs pc (z_st1 [a0, a1, a2, a3, a4, a5, a6, a7, a8, a9, a10, a11, a12, a13, a14] 8 v) st ah Q := by
  have e : z_st1 [a0, a1, a2, a3, a4, a5, a6, a7, a8, a9, a10, a11, a12, a13, a14] 8 v = [a0, a1, a2, a3, a4, a5, a6, a7, some v, a9, a10, a11, a12, a13, a14] := by
    show (match z_c2 (some a7) with | true => _ | false => _ : List (Option Value)).set 8 (some v) = _
    rw [h]
    rfl
  rw [e]
  exact k
theorem zt15_8 {a0 a1 a2 a3 a4 a5 a6 a7 a8 a9 a10 a11 a12 a13 a14 : Option Value} (h : z_c2 (some a7) = false) (k : zW G M d rc rs pc [a0, a1, a2, a3, a4, a5, a6, a7, some v, none, a10, a11, a12, a13, a14] st ah Q) : zW G M d rc rs pc (z_st2 [a0, a1, a2, a3, a4, a5, a6, a7, a8, a9, a10, a11, a12, a13, a14] 8 v) st ah Q := by
  have e : z_st2 [a0, a1, a2, a3, a4, a5, a6, a7, a8, a9, a10, a11, a12, a13, a14] 8 v = [a0, a1, a2, a3, a4, a5, a6, a7, some v, none, a10, a11, a12, a13, a14] := by
    show ((match z_c2 (some a7) with | true => _ | false => _ : List (Option Value)).set 8 (some v)).set 9 none = _
    rw [h]
    rfl
  rw [e]
  exact k
theorem zs15_9 {a0 a1 a2 a3 a4 a5 a6 a7 a8 a9 a10 a11 a12 a13 a14 : Option Value} (h : z_c2 (some a8) = false) (k : zW G M d rc rs pc [a0, a1, a2, a3, a4, a5, a6, a7, a8, some v, a10, a11, a12, a13, a14] st ah Q) : zW G M d rc rs pc (z_st1 [a0, a1, a2, a3, a4, a5, a6, a7, a8, a9, a10, a11, a12, a13, a14] 9 v) st ah Q := by
  have e : z_st1 [a0, a1, a2, a3, a4, a5, a6, a7, a8, a9, a10, a11, a12, a13, a14] 9 v = [a0, a1, a2, a3, a4, a5, a6, a7, a8, some v, a10, a11, a12, a13, a14] := by
    show (match z_c2 (some a8) with | true => _ | false => _ : List (Option Value)).set 9 (some v) = _
    rw [h]
    rfl
  rw [e]
  exact k
theorem zt15_9 {a0 a1 a2 a3 a4 a5 a6 a7 a8 a9 a10 a11 a12 a13 a14 : Option Value} (h : z_c2 (some a8) = false) (k : zW G M d rc rs pc [a0, a1, a2, a3, a4, a5, a6, a7, a8, some v, none, a11, a12, a13, a14] st ah Q) : zW G M d rc rs pc (z_st2 [a0, a1, a2, a3, a4, a5, a6, a7, a8, a9, a10, a11, a12, a13, a14] 9 v) st ah Q := by
  have e : z_st2 [a0, a1, a2, a3, a4, a5, a6, a7, a8, a9, a10, a11, a12, a13, a14] 9 v = [a0, a1, a2, a3, a4, a5, a6, a7, a8, some v, none, a11, a12, a13, a14] := by
    show ((match z_c2 (some a8) with | true => _ | false => _ : List (Option Value)).set 9 (some v)).set 10 none = _
    rw [h]
    rfl
  rw [e]
  exact k
theorem zs15_10 {a0 a1 a2 a3 a4 a5 a6 a7 a8 a9 a10 a11 a12 a13 a14 : Option Value} (h : z_c2 (some a9) = false) (k : zW G M d rc rs pc [a0, a1, a2, a3, a4, a5, a6, a7, a8, a9, some v, a11, a12, a13, a14] st ah Q) : zW G M d rc rs pc (z_st1 [a0, a1, a2, a3, a4, a5, a6, a7, a8, a9, a10, a11, a12, a13, a14] 10 v) st ah Q := by
  have e : z_st1 [a0, a1, a2, a3, a4, a5, a6, a7, a8, a9, a10, a11, a12, a13, a14] 10 v = [a0, a1, a2, a3, a4, a5, a6, a7, a8, a9, some v, a11, a12, a13, a14] := by
    show (match z_c2 (some a9) with | true => _ | false => _ : List (Option Value)).set 10 (some v) = _
    rw [h]
    rfl
  rw [e]
  exact k
theorem zt15_10 {a0 a1 a2 a3 a4 a5 a6 a7 a8 a9 a10 a11 a12 a13 a14 : Option Value} (h : z_c2 (some a9) = false) (k : zW G M d rc rs pc [a0, a1, a2, a3, a4, a5, a6, a7, a8, a9, some v, none, a12, a13, a14] st ah Q) : zW G M d rc rs pc (z_st2 [a0, a1, a2, a3, a4, a5, a6, a7, a8, a9, a10, a11, a12, a13, a14] 10 v) st ah Q := by
  have e : z_st2 [a0, a1, a2, a3, a4, a5, a6, a7, a8, a9, a10, a11, a12, a13, a14] 10 v = [a0, a1, a2, a3, a4, a5, a6, a7, a8, a9, some v, none, a12, a13, a14] := by
    show ((match z_c2 (some a9) with | true => _ | false => _ : List (Option Value)).set 10 (some v)).set 11 none = _
    rw [h]
    rfl
  rw [e]
  exact k
theorem zs15_11 {a0 a1 a2 a3 a4 a5 a6 a7 a8 a9 a10 a11 a12 a13 a14 : Option Value} (h : z_c2 (some a10) = false) (k : zW G M d rc rs pc [a0, a1, a2, a3, a4, a5, a6, a7, a8, a9, a10, some v, a12, a13, a14] st ah Q) : zW G M d rc rs pc (z_st1 [a0, a1, a2, a3, a4, a5, a6, a7, a8, a9, a10, a11, a12, a13, a14] 11 v) st ah Q := by
  have e : z_st1 [a0, a1, a2, a3, a4, a5, a6, a7, a8, a9, a10, a11, a12, a13, a14] 11 v = [a0, a1, a2, a3, a4, a5, a6, a7, a8, a9, a10, some v, a12, a13, a14] := by
    show (match z_c2 (some a10) with | true => _ | false => _ : List (Option Value)).set 11 (some v) = _
    rw [h]
    rfl
  rw [e]
  exact k
theorem zt15_11 {a0 a1 a2 a3 a4 a5 a6 a7 a8 a9 a10 a11 a12 a13 a14 : Option Value} (h : z_c2 (some a10) = false) (k : zW G M d rc rs pc [a0, a1, a2, a3, a4, a5, a6, a7, a8, a9, a10, some v, none, a13, a14] st ah Q) : zW G M d rc rs pc (z_st2 [a0, a1, a2, a3, a4, a5, a6, a7, a8, a9, a10, a11, a12, a13, a14] 11 v) st ah Q := by
  have e : z_st2 [a0, a1, a2, a3, a4, a5, a6, a7, a8, a9, a10, a11, a12, a13, a14] 11 v = [a0, a1, a2, a3, a4, a5, a6, a7, a8, a9, a10, some v, none, a13, a14] := by
    show ((match z_c2 (some a10) with | true => _ | false => _ : List (Option Value)).set 11 (some v)).set 12 none = _
    rw [h]
    rfl
  rw [e]
  exact k
theorem zs15_12 {a0 a1 a2 a3 a4 a5 a6 a7 a8 a9 a10 a11 a12 a13 a14 : Option Value} (h : z_c2 (some a11) = false) (k : zW G M d rc rs pc [a0, a1, a2, a3, a4, a5, a6, a7, a8, a9, a10, a11, some v, a13, a14] st ah Q) : zW G M d rc rs pc (z_st1 [a0, a1, a2, a3, a4, a5, a6, a7, a8, a9, a10, a11, a12, a13, a14] 12 v) st ah Q := by
  have e : z_st1 [a0, a1, a2, a3, a4, a5, a6, a7, a8, a9, a10, a11, a12, a13, a14] 12 v = [a0, a1, a2, a3, a4, a5, a6, a7, a8, a9, a10, a11, some v, a13, a14] := by
    show (match z_c2 (some a11) with | true => _ | false => _ : List (Option Value)).set 12 (some v) = _
    rw [h]
    rfl
  rw [e]
  exact k
theorem zt15_12 {a0 a1 a2 a3 a4 a5 a6 a7 a8 a9 a10 a11 a12 a13 a14 : Option Value} (h : z_c2 (some a11) = false) (k : zW G M d rc rs pc [a0, a1, a2, a3, a4, a5, a6, a7, a8, a9, a10, a11, some v, none, a14] st ah Q) : zW G M d rc rs pc (z_st2 [a0, a1, a2, a3, a4, a5, a6, a7, a8, a9, a10, a11, a12, a13, a14] 12 v) st ah Q := by
  have e : z_st2 [a0, a1, a2, a3, a4, a5, a6, a7, a8, a9, a10, a11, a12, a13, a14] 12 v = [a0, a1, a2, a3, a4, a5, a6, a7, a8, a9, a10, a11, some v, none, a14] := by
    show ((match z_c2 (some a11) with | true => _ | false => _ : List (Option Value)).set 12 (some v)).set 13 none = _
    rw [h]
    rfl
  rw [e]
  exact k
theorem zs15_13 {a0 a1 a2 a3 a4 a5 a6 a7 a8 a9 a10 a11 a12 a13 a14 : Option Value} (h : z_c2 (some a12) = false) (k : zW G M d rc rs pc [a0, a1, a2, a3, a4, a5, a6, a7, a8, a9, a10, a11, a12, some v, a14] st ah Q) : zW G M d rc rs pc (z_st1 [a0, a1, a2, a3, a4, a5, a6, a7, a8, a9, a10, a11, a12, a13, a14] 13 v) st ah Q := by
  have e : z_st1 [a0, a1, a2, a3, a4, a5, a6, a7, a8, a9, a10, a11, a12, a13, a14] 13 v = [a0, a1, a2, a3, a4, a5, a6, a7, a8, a9, a10, a11, a12, some v, a14] := by
    show (match z_c2 (some a12) with | true => _ | false => _ : List (Option Value)).set 13 (some v) = _
    rw [h]
    rfl
  rw [e]
  exact k
theorem zt15_13 {a0 a1 a2 a3 a4 a5 a6 a7 a8 a9 a10 a11 a12 a13 a14 : Option Value} (h : z_c2 (some a12) = false) (k : zW G M d rc rs pc [a0, a1, a2, a3, a4, a5, a6, a7, a8, a9, a10, a11, a12, some v, none] st ah Q) : zW G M d rc rs pc (z_st2 [a0, a1, a2, a3, a4, a5, a6, a7, a8, a9, a10, a11, a12, a13, a14] 13 v) st ah Q := by
  have e : z_st2 [a0, a1, a2, a3, a4, a5, a6, a7, a8, a9, a10, a11, a12, a13, a14] 13 v = [a0, a1, a2, a3, a4, a5, a6, a7, a8, a9, a10, a11, a12, some v, none] := by
    show ((match z_c2 (some a12) with | true => _ | false => _ : List (Option Value)).set 13 (some v)).set 14 none = _
    rw [h]
    rfl
  rw [e]
  exact k
theorem zs15_14 {a0 a1 a2 a3 a4 a5 a6 a7 a8 a9 a10 a11 a12 a13 a14 : Option Value} (h : z_c2 (some a13) = false) (k : zW G M d rc rs pc [a0, a1, a2, a3, a4, a5, a6, a7, a8, a9, a10, a11, a12, a13, some v] st ah Q) : zW G M d rc rs pc (z_st1 [a0, a1, a2, a3, a4, a5, a6, a7, a8, a9, a10, a11, a12, a13, a14] 14 v) st ah Q := by
  have e : z_st1 [a0, a1, a2, a3, a4, a5, a6, a7, a8, a9, a10, a11, a12, a13, a14] 14 v = [a0, a1, a2, a3, a4, a5, a6, a7, a8, a9, a10, a11, a12, a13, some v] := by
    show (match z_c2 (some a13) with | true => _ | false => _ : List (Option Value)).set 14 (some v) = _
    rw [h]
    rfl
  rw [e]
  exact k
theorem zs16_0 {a0 a1 a2 a3 a4 a5 a6 a7 a8 a9 a10 a11 a12 a13 a14 a15 : Option Value} (k : zW G M d rc rs pc [some v, a1, a2, a3, a4, a5, a6, a7, a8, a9, a10, a11, a12, a13, a14, a15] st ah Q) : zW G M d rc rs pc (z_st1 [a0, a1, a2, a3, a4, a5, a6, a7, a8, a9, a10, a11, a12, a13, a14, a15] 0 v) st ah Q := k
theorem zt16_0 {a0 a1 a2 a3 a4 a5 a6 a7 a8 a9 a10 a11 a12 a13 a14 a15 : Option Value} (k : zW G M d rc rs pc [some v, none, a2, a3, a4, a5, a6, a7, a8, a9, a10, a11, a12, a13, a14, a15] st ah Q) : zW G M d rc rs pc (z_st2 [a0, a1, a2, a3, a4, a5, a6, a7, a8, a9, a10, a11, a12, a13, a14, a15] 0 v) st ah Q := k
theorem zs16_1 {a0 a1 a2 a3 a4 a5 a6 a7 a8 a9 a10 a11 a12 a13 a14 a15 : Option Value} (h : z_c2 (some a0) = false) (k : zW G M d rc rs pc [a0, some v, a2, a3, a4, a5, a6, a7, a8, a9, a10, a11, a12, a13, a14, a15] st ah Q) : zW G M d rc rs pc (z_st1 [a0, a1, a2, a3, a4, a5, a6, a7, a8, a9, a10, a11, a12, a13, a14, a15] 1 v) st ah Q := by
  have e : z_st1 [a0, a1, a2, a3, a4, a5, a6, a7, a8, a9, a10, a11, a12, a13, a14, a15] 1 v = [a0, some v, a2, a3, a4, a5, a6, a7, a8, a9, a10, a11, a12, a13, a14, a15] := by
    show (match z_c2 (some a0) with | true => _ | false => _ : List (Option Value)).set 1 (some v) = _
    rw [h]
    rfl
  rw [e]
  exact k
theorem zt16_1 {a0 a1 a2 a3 a4 a5 a6 a7 a8 a9 a10 a11 a12 a13 a14 a15 : Option Value} (h : z_c2 (some a0) = false) (k : zW G M d rc rs pc [a0, some v, none, a3, a4, a5, a6, a7, a8, a9, a10, a11, a12, a13, a14, a15] st ah Q) : zW G M d rc rs pc (z_st2 [a0, a1, a2, a3, a4, a5, a6, a7, a8, a9, a10, a11, a12, a13, a14, a15] 1 v) st ah Q := by
  have e : z_st2 [a0, a1, a2, a3, a4, a5, a6, a7, a8, a9, a10, a11, a12, a13, a14, a15] 1 v = [a0, some v, none, a3, a4, a5, a6, a7, a8, a9, a10, a11, a12, a13, a14, a15] := by
    show ((match z_c2 (some a0) with | true => _ | false => _ : List (Option Value)).set 1 (some v)).set 2 none = _
    rw [h]
    rfl
  rw [e]
  exact k
theorem zs16_2 {a0 a1 a2 a3 a4 a5 a6 a7 a8 a9 a10 a11 a12 a13 a14 a15 : Option Value} (h : z_c2 (some a1) = false) (k : zW G M d rc rs pc [a0, a1, some v, a3, a4, a5, a6, a7, a8, a9, a10, a11, a12, a13, a14, a15] st ah Q) : zW G M d rc rs pc (z_st1 [a0, a1, a2, a3, a4, a5, a6, a7, a8, a9, a10, a11, a12, a13, a14, a15] 2 v) st ah Q := by
  have e : z_st1 [a0, a1, a2, a3, a4, a5, a6, a7, a8, a9, a10, a11, a12, a13, a14, a15] 2 v = [a0, a1, some v, a3, a4, a5, a6, a7, a8, a9, a10, a11, a12, a13, a14, a15] := by
    show (match z_c2 (some a1) with | true => _ | false => _ : List (Option Value)).set 2 (some v) = _
    rw [h]
    rfl
  rw [e]
  exact k
theorem zt16_2 {a0 a1 a2 a3 a4 a5 a6 a7 a8 a9 a10 a11 a12 a13 a14 a15 : Option Value} (h : z_c2 (some a1) = false) (k : zW G M d rc rs pc [a0, a1, some v, none, a4, a5, a6, a7, a8, a9, a10, a11, a12, a13, a14, a15] st ah Q) : zW G M d rc rs pc (z_st2 [a0, a1, a2, a3, a4, a5, a6, a7, a8, a9, a10, a11, a12, a13, a14, a15] 2 v) st ah Q := by
  have e : z_st2 [a0, a1, a2, a3, a4, a5, a6, a7, a8, a9, a10, a11, a12, a13, a14, a15] 2 v = [a0, a1, some v, none, a4, a5, a6, a7, a8, a9, a10, a11, a12, a13, a14, a15] := by
    show ((match z_c2 (some a1) with | true => _ | false => _ : List (Option Value)).set 2 (some v)).set 3 none = _
    rw [h]
    rfl
  rw [e]
  exact k
theorem zs16_3 {a0 a1 a2 a3 a4 a5 a6 a7 a8 a9 a10 a11 a12 a13 a14 a15 : Option Value} (h : z_c2 (some a2) = false) (k : zW G M d rc rs pc [a0, a1, a2, some v, a4, a5, a6, a7, a8, a9, a10, a11, a12, a13, a14, a15] st ah Q) : zW G M d rc rs pc (z_st1 [a0, a1, a2, a3, a4, a5, a6, a7, a8, a9, a10, a11, a12, a13, a14, a15] 3 v) st ah Q := by
  have e : z_st1 [a0, a1, a2, a3, a4, a5, a6, a7, a8, a9, a10, a11, a12, a13, a14, a15] 3 v = [a0, a1, a2, some v, a4, a5, a6, a7, a8, a9, a10, a11, a12, a13, a14, a15] := by
    show (match z_c2 (some a2) with | true => _ | false => _ : List (Option Value)).set 3 (some v) = _
    rw [h]
    rfl
  rw [e]
  exact k
theorem zt16_3 {a0 a1 a2 a3 a4 a5 a6 a7 a8 a9 a10 a11 a12 a13 a14 a15 : Option Value} (h : z_c2 (some a2) = false) (k : zW G M d rc rs pc [a0, a1, a2, some v, none, a5, a6, a7, a8, a9, a10, a11, a12, a13, a14, a15] st ah Q) : zW G M d rc rs pc (z_st2 [a0, a1, a2, a3, a4, a5, a6, a7, a8, a9, a10, a11, a12, a13, a14, a15] 3 v) st ah Q := by
  have e : z_st2 [a0, a1, a2, a3, a4, a5, a6, a7, a8, a9, a10, a11, a12, a13, a14, a15] 3 v = [a0, a1, a2, some v, none, a5, a6, a7, a8, a9, a10, a11, a12, a13, a14, a15] := by
    show ((match z_c2 (some a2) with | true => _ | false => _ : List (Option Value)).set 3 (some v)).set 4 none = _
    rw [h]
    rfl
  rw [e]
  exact k
theorem zs16_4 {a0 a1 a2 a3 a4 a5 a6 a7 a8 a9 a10 a11 a12 a13 a14 a15 : Option Value} (h : z_c2 (some a3) = false) (k : zW G M d rc rs pc [a0, a1, a2, a3, some v, a5, a6, a7, a8, a9, a10, a11, a12, a13, a14, a15] st ah Q) : zW G M d rc rs pc (z_st1 [a0, a1, a2, a3, a4, a5, a6, a7, a8, a9, a10, a11, a12, a13, a14, a15] 4 v) st ah Q := by
  have e : z_st1 [a0, a1, a2, a3, a4, a5, a6, a7, a8, a9, a10, a11, a12, a13, a14, a15] 4 v = [a0, a1, a2, a3, some v, a5, a6, a7, a8, a9, a10, a11, a12, a13, a14, a15] := by
    show (match z_c2 (some a3) with | true => _ | false => _ : List (Option Value)).set 4 (some v) = _
    rw [h]
    rfl
  rw [e]
  exact k
theorem zt16_4 {a0 a1 a2 a3 a4 a5 a6 a7 a8 a9 a10 a11 a12 a13 a14 a15 : Option Value} (h : z_c2 (some a3) = false) (k : zW G M d rc rs pc [a0, a1, a2, a3, some v, none, a6, a7, a8, a9, a10, a11, a12, a13, a14, a15] st ah Q) : zW G M d rc rs pc (z_st2 [a0, a1, a2, a3, a4, a5, a6, a7, a8, a9, a10, a11, a12, a13, a14, a15] 4 v) st ah Q := by
  have e : z_st2 [a0, a1, a2, a3, a4, a5, a6, a7, a8, a9, a10, a11, a12, a13, a14, a15] 4 v = [a0, a1, a2, a3, some v, none, a6, a7, a8, a9, a10, a11, a12, a13, a14, a15] := by
    show ((match z_c2 (some a3) with | true => _ | false => _ : List (Option Value)).set 4 (some v)).set 5 none = _
    rw [h]
    rfl
  rw [e]
  exact k
theorem zs16_5 {a0 a1 a2 a3 a4 a5 a6 a7 a8 a9 a10 a11 a12 a13 a14 a15 : Option Value} (h : z_c2 (some a4) = false) (k : zW G M d rc rs pc [a0, a1, a2, a3, a4, some v, a6, a7, a8, a9, a10, a11, a12, a13, a14, a15] st ah Q) : zW G M d rc rs pc (z_st1 [a0, a1, a2, a3, a4, a5, a6, a7, a8, a9, a10, a11, a12, a13, a14, a15] 5 v) st ah Q := by
  have e : z_st1 [a0, a1, a2, a3, a4, a5, a6, a7, a8, a9, a10, a11, a12, a13, a14, a15] 5 v = [a0, a1, a2, a3, a4, some v, a6, a7, a8, a9, a10, a11, a12, a13, a14, a15] := by
    show (match z_c2 (some a4) with | true => _ | false => _ : List (Option Value)).set 5 (some v) = _
    rw [h]
    rfl
  rw [e]
  exact k
theorem zt16_5 {a0 a1 a2 a3 a4 a5 a6 a7 a8 a9 a10 a11 a12 a13 a14 a15 : Option Value} (h : z_c2 (some a4) = false) (k : zW G M d rc rs pc [a0, a1, a2, a3, a4, some v, none, a7, a8, a9, a10, a11, a12, a13, a14, a15] st ah Q) : zW G M d rc rs pc (z_st2 [a0, a1, a2, a3, a4, a5, a6, a7, a8, a9, a10, a11, a12, a13, a14, a15] 5 v) st ah Q := by
  have e : z_st2 [a0, a1, a2, a3, a4, a5, a6, a7, a8, a9, a10, a11, a12, a13, a14, a15] 5 v = [a0, a1, a2, a3, a4, some v, none, a7, a8, a9, a10, a11, a12, a13, a14, a15] := by
    show ((match z_c2 (some a4) with | true => _ | false => _ : List (Option Value)).set 5 (some v)).set 6 none = _
    rw [h]
    rfl
  rw [e]
  exact k
theorem zs16_6 {a0 a1 a2 a3 a4 a5 a6 a7 a8 a9 a10 a11 a12 a13 a14 a15 : Option Value} (h : z_c2 (some a5) = false) (k : zW G M d rc rs pc [a0, a1, a2, a3, a4, a5, some v, a7, a8, a9, a10, a11, a12, a13, a14, a15] st ah Q) : zW G M d rc rs pc (z_st1 [a0, a1, a2, a3, a4, a5, a6, a7, a8, a9, a10, a11, a12, a13, a14, a15] 6 v) st ah Q := by
  have e : z_st1 [a0, a1, a2, a3, a4, a5, a6, a7, a8, a9, a10, a11, a12, a13, a14, a15] 6 v = [a0, a1, a2, a3, a4, a5, some v, a7, a8, a9, a10, a11, a12, a13, a14, a15] := by
    show (match z_c2 (some a5) with | true => _ | false => _ : List (Option Value)).set 6 (some v) = _
    rw [h]
    rfl
  rw [e]
  exact k
theorem zt16_6 {a0 a1 a2 a3 a4 a5 a6 a7 a8 a9 a10 a11 a12 a13 a14 a15 : Option Value} (h : z_c2 (some a5) = false) (k : zW G M d rc rs pc [a0, a1, a2, a3, a4, a5, some v, none, a8, a9, a10, a11, a12, a13, a14, a15] st ah Q) : zW G M d rc rs pc (z_st2 [a0, a1, a2, a3, a4, a5, a6, a7, a8, a9, a10, a11, a12, a13, a14, a15] 6 v) st ah Q := by
  have e : z_st2 [a0, a1, a2, a3, a4, a5, a6, a7, a8, a9, a10, a11, a12, a13, a14, a15] 6 v = [a0, a1, a2, a3, a4, a5, some v, none, a8, a9, a10, a11, a12, a13, a14, a15] := by
    show ((match z_c2 (some a5) with | true => _ | false => _ : List (Option Value)).set 6 (some v)).set 7 none = _
    rw [h]
    rfl
  rw [e]
  exact k
theorem zs16_7 {a0 a1 a2 a3 a4 a5 a6 a7 a8 a9 a10 a11 a12 a13 a14 a15 : Option Value} (h : z_c2 (some a6) = false) (k : zW G M d rc rs pc [a0, a1, a2, a3, a4, a5, a6, some v, a8, a9, a10, a11, a12, a13, a14, a15] st ah Q) : zW G M d rc rs pc (z_st1 [a0, a1, a2, a3, a4, a5, a6, a7, a8, a9, a10, a11, a12, a13, a14, a15] 7 v) st ah Q := by
  have e : z_st1 [a0, a1, a2, a3, a4, a5, a6, a7, a8, a9, a10, a11, a12, a13, a14, a15] 7 v = [a0, a1, a2, a3, a4, a5, a6, some v, a8, a9, a10, a11, a12, a13, a14, a15] := by
    show (match z_c2 (some a6) with | true => _ | false => _ : List (Option Value)).set 7 (some v) = _
    rw [h]
    rfl
  rw [e]
  exact k
theorem zt16_7 {a0 a1 a2 a3 a4 a5 a6 a7 a8 a9 a10 a11 a12 a13 a14 a15 : Option Value} (h : z_c2 (some a6) = false) (k : zW G M d rc rs pc [a0, a1, a2, a3, a4, a5, a6, some v, none, a9, a10, a11, a12, a13, a14, a15] st ah Q) : zW G M d rc rs pc (z_st2 [a0, a1, a2, a3, a4, a5, a6, a7, a8, a9, a10, a11, a12, a13, a14, a15] 7 v) st ah Q := by
  have e : z_st2 [a0, a1, a2, a3, a4, a5, a6, a7, a8, a9, a10, a11, a12, a13, a14, a15] 7 v = [a0, a1, a2, a3, a4, a5, a6, some v, none, a9, a10, a11, a12, a13, a14, a15] := by
    show ((match z_c2 (some a6) with | true => _ | false => _ : List (Option Value)).set 7 (some v)).set 8 none = _
    rw [h]
    rfl
  rw [e]
  exact k
theorem zs16_8 {a0 a1 a2 a3 a4 a5 a6 a7 a8 a9 a10 a11 a12 a13 a14 a15 : Option Value} (h : z_c2 (some a7) = false) (k : zW G M d rc rs pc [a0, a1, a2, a3, a4, a5, a6, a7, some v, a9, a10, a11, a12, a13, a14, a15] st ah Q) : zW G M d rc rs pc (z_st1 [a0, a1, a2, a3, a4, a5, a6, a7, a8, a9, a10, a11, a12, a13, a14, a15] 8 v) st ah Q := by
  have e : z_st1 [a0, a1, a2, a3, a4, a5, a6, a7, a8, a9, a10, a11, a12, a13, a14, a15] 8 v = [a0, a1, a2, a3, a4, a5, a6, a7, some v, a9, a10, a11, a12, a13, a14, a15] := by
    show (match z_c2 (some a7) with | true => _ | false => _ : List (Option Value)).set 8 (some v) = _
    rw [h]
    rfl
  rw [e]
  exact k
theorem zt16_8 {a0 a1 a2 a3 a4 a5 a6 a7 a8 a9 a10 a11 a12 a13 a14 a15 : Option Value} (h : z_c2 (some a7) = false) (k : zW G M d rc rs pc [a0, a1, a2, a3, a4, a5, a6, a7, some v, none, a10, a11, a12, a13, a14, a15] st ah Q) : zW G M d rc rs pc (z_st2 [a0, a1, a2, a3, a4, a5, a6, a7, a8, a9, a10, a11, a12, a13, a14, a15] 8 v) st ah Q := by
  have e : z_st2 [a0, a1, a2, a3, a4, a5, a6, a7, a8, a9, a10, a11, a12, a13, a14, a15] 8 v = [a0, a1, a2, a3, a4, a5, a6, a7, some v, none, a10, a11, a12, a13, a14, a15] := by
    show ((match z_c2 (some a7) with | true => _ | false => _ : List (Option Value)).set 8 (some v)).set 9 none = _
    rw [h]
    rfl
  rw [e]
  exact k
theorem zs16_9 {a0 a1 a2 a3 a4 a5 a6 a7 a8 a9 a10 a11 a12 a13 a14 a15 : Option Value} (h : z_c2 (some a8) = false) (k : zW G M d rc rs pc [a0, a1, a2, a3, a4, a5, a6, a7, a8, some v, a10, a11, a12, a13, a14, a15] st ah Q) : zW G M d rc rs pc (z_st1 [a0, a1, a2, a3, a4, a5, a6, a7, a8, a9, a10, a11, a12, a13, a14, a15] 9 v) st ah Q := by
  have e : z_st1 [a0, a1, a2, a3, a4, a5, a6, a7, a8, a9, a10, a11, a12, a13, a14, a15] 9 v = [a0, a1, a2, a3, a4, a5, a6, a7, a8, some v, a10, a11, a12, a13, a14, a15] := by
    show (match z_c2 (some a8) with | true => _ | false => _ : List (Option Value)).set 9 (some v) = _
    rw [h]
    rfl
  rw [e]
  exact k
theorem zt16_9 {a0 a1 a2 a3 a4 a5 a6 a7 a8 a9 a10 a11 a12 a13 a14 a15 : Option Value} (h : z_c2 (some a8) = false) (k : zW G M d rc rs pc [a0, a1, a2, a3, a4, a5, a6, a7, a8, some v, none, a11, a12, a13, a14, a15] st ah Q) : zW G M d rc rs pc (z_st2 [a0, a1, a2, a3, a4, a5, a6, a7, a8, a9, a10, a11, a12, a13, a14, a15] 9 v) st ah Q := by
  have e : z_st2 [a0, a1, a2, a3, a4, a5, a6, a7, a8, a9, a10, a11, a12, a13, a14, a15] 9 v = [a0, a1, a2, a3, a4, a5, a6, a7, a8, some v, none, a11, a12, a13, a14, a15] := by
    show ((match z_c2 (some a8) with | true => _ | false => _ : List (Option Value)).set 9 (some v)).set 10 none = _
    rw [h]
    rfl
  rw [e]
  exact k
theorem zs16_10 {a0 a1 a2 a3 a4 a5 a6 a7 a8 a9 a10 a11 a12 a13 a14 a15 : Option Value} (h : z_c2 (some a9) = false) (k : zW G M d rc rs pc [a0, a1, a2, a3, a4, a5, a6, a7, a8, a9, some v, a11, a12, a13, a14, a15] st ah Q) : zW G M d rc rs pc (z_st1 [a0, a1, a2, a3, a4, a5, a6, a7, a8, a9, a10, a11, a12, a13, a14, a15] 10 v) st ah Q := by
  have e : z_st1 [a0, a1, a2, a3, a4, a5, a6, a7, a8, a9, a10, a11, a12, a13, a14, a15] 10 v = [a0, a1, a2, a3, a4, a5, a6, a7, a8, a9, some v, a11, a12, a13, a14, a15] := by
    show (match z_c2 (some a9) with | true => _ | false => _ : List (Option Value)).set 10 (some v) = _
    rw [h]
    rfl
  rw [e]
  exact k
theorem zt16_10 {a0 a1 a2 a3 a4 a5 a6 a7 a8 a9 a10 a11 a12 a13 a14 a15 : Option Value} (h : z_c2 (some a9) = false) (k : zW G M d rc rs pc [a0, a1, a2, a3, a4, a5, a6, a7, a8, a9, some v, none, a12, a13, a14, a15] st ah Q) : zW G M d rc rs pc (z_st2 [a0, a1, a2, a3, a4, a5, a6, a7, a8, a9, a10, a11, a12, a13, a14, a15] 10 v) st ah Q := by
  have e : z_st2 [a0, a1, a2, a3, a4, a5, a6, a7, a8, a9, a10, a11, a12, a13, a14, a15] 10 v = [a0, a1, a2, a3, a4, a5, a6, a7, a8, a9, some v, none, a12, a13, a14, a15] := by
    show ((match z_c2 (some a9) with | true => _ | false => _ : List (Option Value)).set 10 (some v)).set 11 none = _
    rw [h]
    rfl
  rw [e]
  exact k
theorem zs16_11 {a0 a1 a2 a3 a4 a5 a6 a7 a8 a9 a10 a11 a12 a13 a14 a15 : Option Value} (h : z_c2 (some a10) = false) (k : zW G M d rc rs pc [a0, a1, a2, a3, a4, a5, a6, a7, a8, a9, a10, some v, a12, a13, a14, a15] st ah Q) : zW G M d rc rs pc (z_st1 [a0, a1, a2, a3, a4, a5, a6, a7, a8, a9, a10, a11, a12, a13, a14, a15] 11 v) st ah Q := by
  have e : z_st1 [a0, a1, a2, a3, a4, a5, a6, a7, a8, a9, a10, a11, a12, a13, a14, a15] 11 v = [a0, a1, a2, a3, a4, a5, a6, a7, a8, a9, a10, some v, a12, a13, a14, a15] := by
    show (match z_c2 (some a10) with | true => _ | false => _ : List (Option Value)).set 11 (some v) = _
    rw [h]
    rfl
  rw [e]
  exact k
theorem zt16_11 {a0 a1 a2 a3 a4 a5 a6 a7 a8 a9 a10 a11 a12 a13 a14 a15 : Option Value} (h : z_c2 (some a10) = false) (k : zW G M d rc rs pc [a0, a1, a2, a3, a4, a5, a6, a7, a8, a9, a10, some v, none, a13, a14, a15] st ah Q) : zW G M d rc rs pc (z_st2 [a0, a1, a2, a3, a4, a5, a6, a7, a8, a9, a10, a11, a12, a13, a14, a15] 11 v) st ah Q := by
  have e : z_st2 [a0, a1, a2, a3, a4, a5, a6, a7, a8, a9, a10, a11, a12, a13, a14, a15] 11 v = [a0, a1, a2, a3, a4, a5, a6, a7, a8, a9, a10, some v, none, a13, a14, a15] := by
    show ((match z_c2 (some a10) with | true => _ | false => _ : List (Option Value)).set 11 (some v)).set 12 none = _
    rw [h]
    rfl
  rw [e]
  exact k
theorem zs16_12 {a0 a1 a2 a3 a4 a5 a6 a7 a8 a9 a10 a11 a12 a13 a14 a15 : Option Value} (h : z_c2 (some a11) = false) (k : zW G M d rc rs pc [a0, a1, a2, a3, a4, a5, a6, a7, a8, a9, a10, a11, some v, a13, a14, a15] st ah Q) : zW G M d rc rs pc (z_st1 [a0, a1, a2, a3, a4, a5, a6, a7, a8, a9, a10, a11, a12, a13, a14, a15] 12 v) st ah Q := by
  have e : z_st1 [a0, a1, a2, a3, a4, a5, a6, a7, a8, a9, a10, a11, a12, a13, a14, a15] 12 v = [a0, a1, a2, a3, a4, a5, a6, a7, a8, a9, a10, a11, some v, a13, a14, a15] := by
    show (match z_c2 (some a11) with | true => _ | false => _ : List (Option Value)).set 12 (some v) = _
    rw [h]
    rfl
  rw [e]
  exact k
theorem zt16_12 {a0 a1 a2 a3 a4 a5 a6 a7 a8 a9 a10 a11 a12 a13 a14 a15 : Option Value} (h : z_c2 (some a11) = false) (k : zW G M d rc rs pc [a0, a1, a2, a3, a4, a5, a6, a7, a8, a9, a10, a11, some v, none, a14, a15] st ah Q) : zW G M d rc rs pc (z_st2 [a0, a1, a2, a3, a4, a5, a6, a7, a8, a9, a10, a11, a12, a13, a14, a15] 12 v) st ah Q := by
  have e : z_st2 [a0, a1, a2, a3, a4, a5, a6, a7, a8, a9, a10, a11, a12, a13, a14, a15] 12 v = [a0, a1, a2, a3, a4, a5, a6, a7, a8, a9, a10, a11, some v, none, a14, a15] := by
    show ((match z_c2 (some a11) with | true => _ | false => _ : List (Option Value)).set 12 (some v)).set 13 none = _
    rw [h]
    rfl
  rw [e]
  exact k
theorem zs16_13 {a0 a1 a2 a3 a4 a5 a6 a7 a8 a9 a10 a11 a12 a13 a14 a15 : Option Value} (h : z_c2 (some a12) = false) (k : zW G M d rc rs pc [a0, a1, a2, a3, a4, a5, a6, a7, a8, a9, a10, a11, a12, some v, a14, a15] st ah Q) : zW G M d rc rs pc (z_st1 [a0, a1, a2, a3, a4, a5, a6, a7, a8, a9, a10, a11, a12, a13, a14, a15] 13 v) st ah Q := by
  have e : z_st1 [a0, a1, a2, a3, a4, a5, a6, a7, a8, a9, a10, a11, a12, a13, a14, a15] 13 v = [a0, a1, a2, a3, a4, a5, a6, a7, a8, a9, a10, a11, a12, some v, a14, a15] := by
    show (match z_c2 (some a12) with | true => _ | false => _ : List (Option Value)).set 13 (some v) = _
    rw [h]
    rfl
  rw [e]
  exact k
theorem zt16_13 {a0 a1 a2 a3 a4 a5 a6 a7 a8 a9 a10 a11 a12 a13 a14 a15 : Option Value} (h : z_c2 (some a12) = false) (k : zW G M d rc rs pc [a0, a1, a2, a3, a4, a5, a6, a7, a8, a9, a10, a11, a12, some v, none, a15] st ah Q) : zW G M d rc rs pc (z_st2 [a0, a1, a2, a3, a4, a5, a6, a7, a8, a9, a10, a11, a12, a13, a14, a15] 13 v) st ah Q := by
  have e : z_st2 [a0, a1, a2, a3, a4, a5, a6, a7, a8, a9, a10, a11, a12, a13, a14, a15] 13 v = [a0, a1, a2, a3, a4, a5, a6, a7, a8, a9, a10, a11, a12, some v, none, a15] := by
    show ((match z_c2 (some a12) with | true => _ | false => _ : List (Option Value)).set 13 (some v)).set 14 none = _
    rw [h]
    rfl
  rw [e]
  exact k
theorem zs16_14 {a0 a1 a2 a3 a4 a5 a6 a7 a8 a9 a10 a11 a12 a13 a14 a15 : Option Value} (h : z_c2 (some a13) = false) (k : zW G M d rc rs pc [a0, a1, a2, a3, a4, a5, a6, a7, a8, a9, a10, a11, a12, a13, some v, a15] st ah Q) : zW G M d rc rs pc (z_st1 [a0, a1, a2, a3, a4, a5, a6, a7, a8, a9, a10, a11, a12, a13, a14, a15] 14 v) st ah Q := by
  have e : z_st1 [a0, a1, a2, a3, a4, a5, a6, a7, a8, a9, a10, a11, a12, a13, a14, a15] 14 v = [a0, a1, a2, a3, a4, a5, a6, a7, a8, a9, a10, a11, a12, a13, some v, a15] := by
    show (match z_c2 (some a13) with | true => _ | false => _ : List (Option Value)).set 14 (some v) = _
    rw [h]
    rfl
  rw [e]
  exact k
theorem zt16_14 {a0 a1 a2 a3 a4 a5 a6 a7 a8 a9 a10 a11 a12 a13 a14 a15 : Option Value} (h : z_c2 (some a13) = false) (k : zW G M d rc rs pc [a0, a1, a2, a3, a4, a5, a6, a7, a8, a9, a10, a11, a12, a13, some v, none] st ah Q) : zW G M d rc rs pc (z_st2 [a0, a1, a2, a3, a4, a5, a6, a7, a8, a9, a10, a11, a12, a13, a14, a15] 14 v) st ah Q := by
  have e : z_st2 [a0, a1, a2, a3, a4, a5, a6, a7, a8, a9, a10, a11, a12, a13, a14, a15] 14 v = [a0, a1, a2, a3, a4, a5, a6, a7, a8, a9, a10, a11, a12, a13, some v, none] := by
    show ((match z_c2 (some a13) with | true => _ | false => _ : List (Option Value)).set 14 (some v)).set 15 none = _
    rw [h]
    rfl
  rw [e]
  exact k
theorem zs16_15 {a0 a1 a2 a3 a4 a5 a6 a7 a8 a9 a10 a11 a12 a13 a14 a15 : Option Value} (h : z_c2 (some a14) = false) (k : zW G M d rc rs pc [a0, a1, a2, a3, a4, a5, a6, a7, a8, a9, a10, a11, a12, a13, a14, some v] st ah Q) : zW G M d rc rs pc (z_st1 [a0, a1, a2, a3, a4, a5, a6, a7, a8, a9, a10, a11, a12, a13, a14, a15] 15 v) st ah Q := by
  have e : z_st1 [a0, a1, a2, a3, a4, a5, a6, a7, a8, a9, a10, a11, a12, a13, a14, a15] 15 v = [a0, a1, a2, a3, a4, a5, a6, a7, a8, a9, a10, a11, a12, a13, a14, some v] := by
    show (match z_c2 (some a14) with | true => _ | false => _ : List (Option Value)).set 15 (some v) = _
    rw [h]
    rfl
  rw [e]
  exact k
end ZCN
